section
/-! rows taken from kit/rows (starting text) -/
theorem pk_us {f : Nat → Int32} {k : Nat} {x : Int32} : upd f k x k = x := if_pos rfl
theorem pk_un {f : Nat → Int32} {k j : Nat} {x : Int32} (h : j ≠ k) : upd f k x j = f j := if_neg h
theorem pk_sub {a b : Nat} (h : b ≤ a) : nI a - nI b = nI (a - b) := by
  obtain ⟨c, rfl⟩ : ∃ c, a = c + b := ⟨a - b, by omega⟩
  rw [← nI_add, Int32.add_sub_cancel, Nat.add_sub_cancel]
theorem pk_m1 (n : Nat) : nI (n + 1) + (-1) = nI n := by
  rw [← nI_1, Int32.add_assoc, show (1 : Int32) + (-1) = 0 from rfl, Int32.add_zero]
theorem pk_mul (a b : Nat) : nI a * nI b = nI (a * b) := (Int32.ofNat_mul a b).symm
theorem pk_ix (x : Int32) {n : Nat} (hn : n < 2 ^ 31) : x < 0 ∨ nI n ≤ x ∨ ∃ j : Nat, j < n ∧ x = nI j := by
  by_cases h : x < 0
  · exact Or.inl h
  · obtain ⟨j, hj, rfl⟩ := nI_of h
    by_cases h2 : j < n
    · exact Or.inr (Or.inr ⟨j, h2, rfl⟩)
    · exact Or.inr (Or.inl (nI_le (by omega) hj))
theorem pk_le {x y : Int32} {A B : Prop} (a b : Nat) (f : a ≤ b → A) (g : b < a → B) (hx : x = nI a := by rfl) (hy : y = nI b := by rfl) (ha : a < 2 ^ 31 := by omega) (hb : b < 2 ^ 31 := by omega) : (x ≤ y → A) ∧ (¬ x ≤ y → B) := by
  subst hx hy
  rw [nI_leI ha hb]
  exact ⟨f, fun z => g (by omega)⟩
theorem pk_lt {x y : Int32} {A B : Prop} (a b : Nat) (f : a < b → A) (g : b ≤ a → B) (hx : x = nI a := by rfl) (hy : y = nI b := by rfl) (ha : a < 2 ^ 31 := by omega) (hb : b < 2 ^ 31 := by omega) : (x < y → A) ∧ (¬ x < y → B) := by
  subst hx hy
  rw [nI_ltI ha hb]
  exact ⟨f, fun z => g (by omega)⟩
theorem pk_eq {x y : Int32} {A B : Prop} (a b : Nat) (f : a = b → A) (g : a ≠ b → B) (hx : x = nI a := by rfl) (hy : y = nI b := by rfl) (ha : a < 2 ^ 31 := by omega) (hb : b < 2 ^ 31 := by omega) : (x = y → A) ∧ (¬ x = y → B) := by
  subst hx hy
  rw [nI_eq ha hb]
  exact ⟨f, g⟩
theorem pk_in {x : Int32} (n N : Nat) (h : n < N) (hx : x = nI n := by rfl) (hN : N < 2 ^ 31 := by omega) : vp_in x N := by
  subst hx
  exact vp_in_nI h hN
theorem pk_cl {x : Int32} (n : Nat) (hx : x = nI n := by rfl) (h : n < 2 ^ 31 := by omega) : x.toNatClampNeg = n := by
  subst hx
  exact nI_clamp h
theorem pk_tn {n : Nat} (h : n < 2 ^ 32) : (nI n).toBitVec.toNat = n := Nat.mod_eq_of_lt h
theorem pk_and (x : Int32) {m : Int32} (k : Nat) (hm : m.toBitVec.toNat = 2 ^ k - 1) : x &&& m = nI (x.toBitVec.toNat % 2 ^ k) := by
  apply Int32.toBitVec_inj.mp
  apply BitVec.eq_of_toNat_eq
  rw [Int32.toBitVec_and, BitVec.toNat_and, hm, Nat.and_two_pow_sub_one_eq_mod]
  show _ = (BitVec.ofNat 32 _).toNat
  rw [BitVec.toNat_ofNat]
  exact (Nat.mod_eq_of_lt (Nat.lt_of_le_of_lt (Nat.mod_le _ _) x.toBitVec.isLt)).symm
theorem pk_andN {n : Nat} (h : n < 2 ^ 32) {m : Int32} (k : Nat) (hm : m.toBitVec.toNat = 2 ^ k - 1) : nI n &&& m = nI (n % 2 ^ k) := by
  rw [pk_and _ k hm, pk_tn h]
theorem pk_andE (x : Int32) {m : Int32} (k : Nat) (hm : m.toBitVec.toNat = 2 ^ k - 1) : ∃ j : Nat, j < 2 ^ k ∧ x &&& m = nI j := ⟨_, Nat.mod_lt _ (Nat.two_pow_pos k), pk_and x k hm⟩
theorem pk_andIn (x : Int32) {m : Int32} (k : Nat) (hm : m.toBitVec.toNat = 2 ^ k - 1) (hk : k ≤ 30) : vp_in (x &&& m) (2 ^ k) := by
  obtain ⟨j, hj, e⟩ := pk_andE x k hm
  rw [e]
  exact vp_in_nI hj (Nat.lt_of_le_of_lt (Nat.pow_le_pow_right (by decide) hk) (by decide))
/-! ===== Int32 by its bits: bt x i ===== -/
def bt (x : Int32) (i : Nat) : Bool := x.toBitVec.getLsbD i
theorem b_ext {x y : Int32} (h : ∀ i, i < 32 → bt x i = bt y i) : x = y := Int32.toBitVec_inj.mp (BitVec.eq_of_getLsbD_eq (fun i hi => h i hi))
theorem b_or (x y : Int32) (i : Nat) : bt (x ||| y) i = (bt x i || bt y i) := by unfold bt; rw [Int32.toBitVec_or, BitVec.getLsbD_or]
theorem b_and (x y : Int32) (i : Nat) : bt (x &&& y) i = (bt x i && bt y i) := by unfold bt; rw [Int32.toBitVec_and, BitVec.getLsbD_and]
theorem b_xor (x y : Int32) (i : Nat) : bt (x ^^^ y) i = (bt x i ^^ bt y i) := by unfold bt; rw [Int32.toBitVec_xor, BitVec.getLsbD_xor]
theorem b_big {x : Int32} {i : Nat} (h : 32 ≤ i) : bt x i = false := BitVec.getLsbD_of_ge _ _ h
theorem b_255 (i : Nat) : bt 255 i = decide (i < 8) := by
  rcases Nat.lt_or_ge i 32 with h | h
  · exact (by decide +kernel : ∀ i, i < 32 → bt 255 i = decide (i < 8)) i h
  · rw [b_big h, decide_eq_false (by omega)]
theorem b_65535 (i : Nat) : bt 65535 i = decide (i < 16) := by
  rcases Nat.lt_or_ge i 32 with h | h
  · exact (by decide +kernel : ∀ i, i < 32 → bt 65535 i = decide (i < 16)) i h
  · rw [b_big h, decide_eq_false (by omega)]
theorem b_m1 : ∀ i, i < 32 → bt (-1) i = true := by decide +kernel
theorem b_0 (i : Nat) : bt 0 i = false := BitVec.getLsbD_zero
theorem s_l : ∀ n, n < 32 → ((nI n &&& 31).toBitVec.smod 32).toNat = n := by decide +kernel
theorem s_u : ∀ n, n < 32 → (((nI n).toUInt32 &&& Int32.toUInt32 31).toBitVec % 32).toNat = n := by decide +kernel
theorem b_shl (n : Nat) (hn : n < 32) (x : Int32) {i : Nat} (hi : i < 32) : bt (x <<< (nI n &&& 31)) i = (decide (n ≤ i) && bt x (i - n)) := by
  unfold bt
  rw [Int32.toBitVec_shiftLeft]
  show (x.toBitVec <<< ((nI n &&& 31).toBitVec.smod 32).toNat).getLsbD i = _
  rw [s_l n hn, BitVec.getLsbD_shiftLeft]
  rcases Nat.lt_or_ge i n with h | h
  · simp [h, Nat.not_le.mpr h]
  · simp [hi, h, Nat.not_lt.mpr h]
theorem b_ushr (n : Nat) (hn : n < 32) (x : Int32) (i : Nat) : bt ((x.toUInt32 >>> ((nI n).toUInt32 &&& Int32.toUInt32 31)).toInt32) i = bt x (n + i) := by
  show (x.toUInt32 >>> ((nI n).toUInt32 &&& Int32.toUInt32 31)).toBitVec.getLsbD i = x.toUInt32.toBitVec.getLsbD (n + i)
  rw [UInt32.toBitVec_shiftRight]
  show (x.toUInt32.toBitVec >>> (((nI n).toUInt32 &&& Int32.toUInt32 31).toBitVec % 32).toNat).getLsbD i = _
  rw [s_u n hn, BitVec.getLsbD_ushiftRight]
theorem b_sshr (n : Nat) (hn : n < 32) (x : Int32) {i : Nat} (hi : i < 32) : bt (x >>> (nI n &&& 31)) i = if n + i < 32 then bt x (n + i) else bt x 31 := by
  unfold bt
  rw [Int32.toBitVec_shiftRight]
  show (x.toBitVec.sshiftRight ((nI n &&& 31).toBitVec.smod 32).toNat).getLsbD i = _
  rw [s_l n hn, BitVec.getLsbD_sshiftRight, BitVec.msb_eq_getLsbD_last]
  simp [hi]
theorem b_shl8 (x : Int32) {i : Nat} (hi : i < 32) : bt (x <<< ((8 : Int32) &&& 31)) i = (decide (8 ≤ i) && bt x (i - 8)) := b_shl 8 (by omega) x hi
theorem b_shl16 (x : Int32) {i : Nat} (hi : i < 32) : bt (x <<< ((16 : Int32) &&& 31)) i = (decide (16 ≤ i) && bt x (i - 16)) := b_shl 16 (by omega) x hi
theorem b_shl24 (x : Int32) {i : Nat} (hi : i < 32) : bt (x <<< ((24 : Int32) &&& 31)) i = (decide (24 ≤ i) && bt x (i - 24)) := b_shl 24 (by omega) x hi
theorem b_sshr8 (x : Int32) {i : Nat} (hi : i < 32) : bt (x >>> ((8 : Int32) &&& 31)) i = if 8 + i < 32 then bt x (8 + i) else bt x 31 := b_sshr 8 (by omega) x hi
end
section
/-! pure: arrays, records, results -/
theorem bg_vb0 : vp_nar .boolean 0 = 0 := by decide
theorem bg_vb1 : vp_nar .boolean 1 = 1 := by decide
theorem bg_at (f : Nat → Int32) {x : Int32} {n : Nat} (hx : x = nI n) (h : n < 2 ^ 31) : f x.toNatClampNeg = f n := by rw [hx, nI_clamp h]
theorem bg_i3 (t i : Nat) : nI t * 3 + nI i = nI (t * 3 + i) := by
  rw [show (3 : Int32) = nI 3 from rfl, pk_mul, nI_add]
theorem bg_i5 (t i : Nat) : nI t * 5 + nI i = nI (t * 5 + i) := by
  rw [show (5 : Int32) = nI 5 from rfl, pk_mul, nI_add]
theorem bg_i40 (t r i : Nat) : (nI t * 40 + nI r) * 5 + nI i = nI ((t * 40 + r) * 5 + i) := by
  rw [show (40 : Int32) = nI 40 from rfl, pk_mul, nI_add, bg_i5]
def bg_un (f : Nat → Nat) (k x : Nat) : Nat → Nat := fun j => if j = k then x else f j
theorem bg_uns {f : Nat → Nat} {k x : Nat} : bg_un f k x k = x := if_pos rfl
theorem bg_unn {f : Nat → Nat} {k x j : Nat} (h : j ≠ k) : bg_un f k x j = f j := if_neg h
theorem bg_uu (f : Nat → Int32) (k : Nat) (x y : Int32) : upd (upd f k x) k y = upd f k y := by
  funext j
  unfold upd
  by_cases h : j = k
  · rw [if_pos h, if_pos h]
  · rw [if_neg h, if_neg h, if_neg h]
theorem bg_ui {f : Nat → Int32} {k : Nat} {x : Int32} (h : f k = x) : upd f k x = f := by
  funext j
  unfold upd
  by_cases hj : j = k
  · rw [if_pos hj, hj, h]
  · rw [if_neg hj]
theorem bg_nIu {f : Nat → Int32} {F : Nat → Nat} (h : ∀ j, f j = nI (F j)) (k x : Nat) : ∀ j, upd f k (nI x) j = nI (bg_un F k x j) := by
  intro j
  unfold upd bg_un
  by_cases hj : j = k
  · rw [if_pos hj, if_pos hj]
  · rw [if_neg hj, if_neg hj]; exact h j
def bg_vl (c o : Nat → Int32) (p : Nat) : Int32 := if p < 8 then c p else o (p - 8)
theorem bg_vlL {c o : Nat → Int32} {p : Nat} (h : p < 8) : bg_vl c o p = c p := if_pos h
theorem bg_vlH {c o : Nat → Int32} {p : Nat} (h : 8 ≤ p) : bg_vl c o p = o (p - 8) := if_neg (by omega)
def bg_cp (a : Nat → Int32) (b : Nat) (v : Nat → Int32) (n : Nat) : Nat → Int32 := fun j => if b ≤ j ∧ j < b + n then v (j - b) else a j
theorem bg_cp0 (a : Nat → Int32) (b : Nat) (v : Nat → Int32) : bg_cp a b v 0 = a := by
  funext j
  unfold bg_cp
  rw [if_neg (by omega)]
theorem bg_cpi {a : Nat → Int32} {b : Nat} {v : Nat → Int32} {n i : Nat} (h : i < n) : bg_cp a b v n (b + i) = v i := by
  unfold bg_cp
  rw [if_pos (by omega), Nat.add_sub_cancel_left]
theorem bg_cpo {a : Nat → Int32} {b : Nat} {v : Nat → Int32} {n j : Nat} (h : j < b ∨ b + n ≤ j) : bg_cp a b v n j = a j := by
  unfold bg_cp
  rw [if_neg (by omega)]
theorem bg_cps {a : Nat → Int32} {b : Nat} {v : Nat → Int32} {n j : Nat} {x : Int32} (hj : j = b + n) (hx : x = v n) : upd (bg_cp a b v n) j x = bg_cp a b v (n + 1) := by
  subst hj hx
  funext j
  by_cases h : j = b + n
  · subst h
    rw [pk_us, bg_cpi (by omega)]
  · rw [pk_un h]
    unfold bg_cp
    by_cases h2 : b ≤ j ∧ j < b + n
    · rw [if_pos h2, if_pos (by omega)]
    · rw [if_neg h2, if_neg (by omega)]
def bg_rc (c : Int32) (m : Nat) (v : Nat → Int32) (i : Nat) : Int32 := if i = 0 then c else if i = 1 then nI m else if i - 2 < m then v (i - 2) else 0
theorem bg_rc0 {c : Int32} {m : Nat} {v : Nat → Int32} : bg_rc c m v 0 = c := if_pos rfl
theorem bg_rc1 {c : Int32} {m : Nat} {v : Nat → Int32} : bg_rc c m v 1 = nI m := by
  unfold bg_rc
  rw [if_neg (by omega), if_pos rfl]
theorem bg_rc2 {c : Int32} {m : Nat} {v : Nat → Int32} {i : Nat} : bg_rc c m v (i + 2) = if i < m then v i else 0 := by
  unfold bg_rc
  rw [if_neg (by omega), if_neg (by omega), Nat.add_sub_cancel]
def bg_E5 (a b : Nat → Int32) : Prop := ∀ i, i < 5 → a i = b i
def bg_sm (lc c : Int32) (li n : Nat) (lv v : Nat → Int32) : Prop := lc = c ∧ li = n ∧ ∀ i, i < n → lv i = v i
theorem bg_rcI {c c' : Int32} {m m' : Nat} {v v' : Nat → Int32} (hm : m ≤ 3) (hm' : m' ≤ 3) : bg_E5 (bg_rc c m v) (bg_rc c' m' v') ↔ bg_sm c c' m m' v v' := by
  constructor
  · intro h
    have h0 := h 0 (by omega)
    rw [bg_rc0, bg_rc0] at h0
    have h1 := h 1 (by omega)
    rw [bg_rc1, bg_rc1, nI_eq (by omega) (by omega)] at h1
    subst h1
    refine ⟨h0, rfl, fun i hi => ?_⟩
    have h2 := h (i + 2) (by omega)
    rw [bg_rc2, bg_rc2, if_pos hi, if_pos hi] at h2
    exact h2
  · intro h i hi
    obtain ⟨e0, e1, e2⟩ := h
    subst e0 e1
    match i with
    | 0 => rw [bg_rc0, bg_rc0]
    | 1 => rw [bg_rc1, bg_rc1]
    | i + 2 =>
      rw [bg_rc2, bg_rc2]
      by_cases h : i < m
      · rw [if_pos h, if_pos h]; exact e2 i h
      · rw [if_neg h, if_neg h]
theorem bg_rcC {c : Int32} {m : Nat} {v v' : Nat → Int32} (h : ∀ i, i < m → v i = v' i) : bg_rc c m v = bg_rc c m v' := by
  funext i
  match i with
  | 0 => rw [bg_rc0, bg_rc0]
  | 1 => rw [bg_rc1, bg_rc1]
  | i + 2 =>
    rw [bg_rc2, bg_rc2]
    by_cases h2 : i < m
    · rw [if_pos h2, if_pos h2]; exact h i h2
    · rw [if_neg h2, if_neg h2]
theorem bg_E5t {a b c : Nat → Int32} (h : bg_E5 a b) (g : bg_E5 b c) : bg_E5 a c := fun i hi => (h i hi).trans (g i hi)
theorem bg_E5s {a b : Nat → Int32} (h : bg_E5 a b) : bg_E5 b a := fun i hi => (h i hi).symm
def bg_sp (k x v : Int32) : Int32 := if k = 1 then x * 31 + v else if k = 2 then (if v ≤ x then x else v) else x + v
def bg_fd (k : Int32) (v : Nat → Int32) : Nat → Int32 → Int32
  | 0, x => x
  | n + 1, x => bg_sp k (bg_fd k v n x) (v n)
theorem bg_fdC {k : Int32} {v v' : Nat → Int32} {x : Int32} : ∀ n, (∀ i, i < n → v i = v' i) → bg_fd k v n x = bg_fd k v' n x := by
  intro n
  induction n with
  | zero => intro _; rfl
  | succ n ih =>
    intro h
    show bg_sp k (bg_fd k v n x) (v n) = bg_sp k (bg_fd k v' n x) (v' n)
    rw [ih (fun i hi => h i (by omega)), h n (by omega)]
def bg_rs (k c : Int32) (n : Nat) (v : Nat → Int32) : Int32 := if k = 3 then bg_fd k v n 0 &&& 15 else bg_fd k v n c
theorem bg_rsC {k c : Int32} {n : Nat} {v v' : Nat → Int32} (h : ∀ i, i < n → v i = v' i) : bg_rs k c n v = bg_rs k c n v' := by
  unfold bg_rs
  rw [bg_fdC n h, bg_fdC n h]
def bg_fh (v : Nat → Int32) : Nat → Int32 → Int32
  | 0, x => x
  | n + 1, x => bg_fh v n x * 31 + v n
theorem bg_fhC {v v' : Nat → Int32} {x : Int32} : ∀ n, (∀ i, i < n → v i = v' i) → bg_fh v n x = bg_fh v' n x := by
  intro n
  induction n with
  | zero => intro _; rfl
  | succ n ih =>
    intro h
    show bg_fh v n x * 31 + v n = bg_fh v' n x * 31 + v' n
    rw [ih (fun i hi => h i (by omega)), h n (by omega)]
def bg_hh (c : Int32) (n : Nat) (v : Nat → Int32) : Int32 := bg_fh v n (c * 31 + nI n)
theorem bg_hhC {c c' : Int32} {m n : Nat} {v v' : Nat → Int32} (h : bg_sm c c' m n v v') : bg_hh c m v = bg_hh c' n v' := by
  obtain ⟨e0, e1, e2⟩ := h
  subst e0 e1
  exact bg_fhC m e2
/-! the chain of a task's records -/
def bg_pv (own : Nat → Nat) (t : Nat) : Nat → Int32
  | 0 => -1
  | r + 1 => if own r = t then nI r else bg_pv own t r
theorem bg_pvD (own : Nat → Nat) (t : Nat) : ∀ m, (bg_pv own t m = -1 ∧ ∀ r, r < m → own r ≠ t) ∨ (∃ r, r < m ∧ own r = t ∧ bg_pv own t m = nI r ∧ ∀ q, r < q → q < m → own q ≠ t) := by
  intro m
  induction m with
  | zero => exact Or.inl ⟨rfl, fun r hr => absurd hr (by omega)⟩
  | succ m ih =>
    by_cases h : own m = t
    · exact Or.inr ⟨m, by omega, h, if_pos h, fun q h1 h2 => absurd h1 (by omega)⟩
    · have e : bg_pv own t (m + 1) = bg_pv own t m := if_neg h
      rw [e]
      rcases ih with ⟨e1, e2⟩ | ⟨r, h1, h2, h3, h4⟩
      · refine Or.inl ⟨e1, fun r hr => ?_⟩
        by_cases hm : r = m
        · rw [hm]; exact h
        · exact e2 r (by omega)
      · refine Or.inr ⟨r, by omega, h2, h3, fun q hq hm => ?_⟩
        by_cases hm2 : q = m
        · rw [hm2]; exact h
        · exact h4 q hq (by omega)
theorem bg_pvC {own own' : Nat → Nat} {t : Nat} : ∀ m, (∀ r, r < m → own r = own' r) → bg_pv own t m = bg_pv own' t m := by
  intro m
  induction m with
  | zero => intro _; rfl
  | succ m ih =>
    intro h
    show (if own m = t then nI m else bg_pv own t m) = (if own' m = t then nI m else bg_pv own' t m)
    rw [h m (by omega), ih (fun r hr => h r (by omega))]
theorem bg_pvS {own : Nat → Nat} {t m : Nat} (h : own m = t) : bg_pv own t (m + 1) = nI m := if_pos h
theorem bg_pvN {own : Nat → Nat} {t m : Nat} (h : own m ≠ t) : bg_pv own t (m + 1) = bg_pv own t m := if_neg h
/-! values as of now -/
def bg_R (kd cs : Nat → Int32) (C P : Nat → Nat) (c : Nat → Int32) (o : Nat → Int32) (t : Nat) : Int32 := bg_rs (kd t) (cs t) (C t) (fun i => bg_vl c o (P (t * 3 + i)))
theorem bg_RC {kd cs : Nat → Int32} {C P : Nat → Nat} {c o o' : Nat → Int32} {t : Nat} (hb : ∀ i, i < C t → P (t * 3 + i) < 8 + t) (h : ∀ j, j < t → o j = o' j) : bg_R kd cs C P c o t = bg_R kd cs C P c o' t := by
  refine bg_rsC (fun i hi => ?_)
  have := hb i hi
  by_cases h8 : P (t * 3 + i) < 8
  · rw [bg_vlL h8, bg_vlL h8]
  · rw [bg_vlH (by omega), bg_vlH (by omega)]
    exact h _ (by omega)
def bg_nw (R : (Nat → Int32) → Nat → Int32) (a : Nat → Int32) : Nat → (Nat → Int32)
  | 0 => a
  | t + 1 => upd (bg_nw R a t) t (R (bg_nw R a t) t)
def bg_FX (R : (Nat → Int32) → Nat → Int32) (T : Nat) (o : Nat → Int32) : Prop := ∀ t, t < T → o t = R o t
def bg_Lc (R : (Nat → Int32) → Nat → Int32) (T : Nat) : Prop := ∀ (o o' : Nat → Int32) (t : Nat), t < T → (∀ j, j < t → o j = o' j) → R o t = R o' t
theorem bg_nwS {R : (Nat → Int32) → Nat → Int32} {a : Nat → Int32} : ∀ m t j, j < t → t ≤ m → bg_nw R a m j = bg_nw R a t j := by
  intro m
  induction m with
  | zero => intro t j h1 h2; exact absurd h1 (by omega)
  | succ m ih =>
    intro t j h1 h2
    by_cases e : t = m + 1
    · rw [e]
    · rw [← ih t j h1 (by omega)]
      exact pk_un (by omega)
theorem bg_nwF {R : (Nat → Int32) → Nat → Int32} {a : Nat → Int32} {T : Nat} (hR : bg_Lc R T) : bg_FX R T (bg_nw R a T) := by
  intro t ht
  rw [bg_nwS T (t + 1) t (by omega) (by omega)]
  show upd (bg_nw R a t) t (R (bg_nw R a t) t) t = _
  rw [pk_us]
  exact hR _ _ t ht (fun j hj => (bg_nwS T t j hj (by omega)).symm)
theorem bg_FXu {R : (Nat → Int32) → Nat → Int32} {T : Nat} (hR : bg_Lc R T) {o o' : Nat → Int32} (h : bg_FX R T o) (h' : bg_FX R T o') : ∀ t, t < T → o t = o' t := by
  intro t
  induction t using Nat.strongRecOn with
  | ind t ih =>
    intro ht
    rw [h t ht, h' t ht]
    exact hR _ _ t ht (fun j hj => ih j hj (by omega))
theorem bg_cpz {a : Nat → Int32} {v : Nat → Int32} {n i : Nat} (h : i < n) : bg_cp a 0 v n i = v i := by
  have := bg_cpi (a := a) (b := 0) (v := v) h
  rw [Nat.zero_add] at this
  exact this
theorem bg_cpC {a : Nat → Int32} {b : Nat} {v v' : Nat → Int32} {n : Nat} (h : ∀ i, i < n → v i = v' i) : bg_cp a b v n = bg_cp a b v' n := by
  funext j
  unfold bg_cp
  by_cases h2 : b ≤ j ∧ j < b + n
  · rw [if_pos h2, if_pos h2]
    exact h _ (by omega)
  · rw [if_neg h2, if_neg h2]
theorem bg_smC {lc c : Int32} {li n : Nat} {lv v v' : Nat → Int32} (h : ∀ i, i < n → v i = v' i) : bg_sm lc c li n lv v → bg_sm lc c li n lv v' :=
  fun z => ⟨z.1, z.2.1, fun i hi => (z.2.2 i hi).trans (h i hi)⟩
/-- X's store holds the record (cs, n, v) of task t -/
def bg_ins (N : Nat) (own : Nat → Nat) (kc : Nat → Int32) (KN : Nat → Nat) (kv : Nat → Int32) (cs : Int32) (n t : Nat) (v : Nat → Int32) : Prop := ∃ r, r < N ∧ own r = t ∧ bg_sm (kc r) cs (KN r) n (fun i => kv (r * 3 + i)) v
theorem bg_insC {N : Nat} {own : Nat → Nat} {kc : Nat → Int32} {KN : Nat → Nat} {kv : Nat → Int32} {cs : Int32} {n t : Nat} {v v' : Nat → Int32} (h : ∀ i, i < n → v i = v' i) (z : bg_ins N own kc KN kv cs n t v) : bg_ins N own kc KN kv cs n t v' := by
  obtain ⟨r, r1, r2, r3⟩ := z
  exact ⟨r, r1, r2, bg_smC h r3⟩
/-- the last record of X is (cs, n, v) -/
def bg_lst (hl lc : Int32) (li : Nat) (lv : Nat → Int32) (cs : Int32) (n : Nat) (v : Nat → Int32) : Prop := hl ≠ 0 ∧ bg_sm lc cs li n lv v
theorem bg_lstC {hl lc : Int32} {li : Nat} {lv : Nat → Int32} {cs : Int32} {n : Nat} {v v' : Nat → Int32} (h : ∀ i, i < n → v i = v' i) (z : bg_lst hl lc li lv cs n v) : bg_lst hl lc li lv cs n v' := ⟨z.1, bg_smC h z.2⟩
end
section
/-! the mask of needed tasks: pure -/
theorem bg_b1 (i : Nat) : bt 1 i = decide (i = 0) := by
  rcases Nat.lt_or_ge i 32 with h | h
  · exact (by decide +kernel : ∀ i, i < 32 → bt 1 i = decide (i = 0)) i h
  · rw [b_big h, decide_eq_false (by omega)]
theorem bg_bit (x : Int32) {t : Nat} (ht : t < 32) : ((x >>> (nI t &&& 31)) &&& 1) = if bt x t = true then 1 else 0 := by
  apply b_ext
  intro i hi
  rw [b_and, b_sshr t ht x hi, bg_b1]
  by_cases h : i = 0
  · subst h
    rw [decide_eq_true rfl, Bool.and_true, Nat.add_zero, if_pos ht]
    by_cases hb : bt x t = true
    · rw [if_pos hb, hb, bg_b1, decide_eq_true rfl]
    · rw [if_neg hb, b_0]
      cases e : bt x t
      · rfl
      · exact absurd e hb
  · rw [decide_eq_false h, Bool.and_false]
    by_cases hb : bt x t = true
    · rw [if_pos hb, bg_b1, decide_eq_false h]
    · rw [if_neg hb, b_0]
theorem bg_bitT {x : Int32} {t : Nat} (ht : t < 32) (h : bt x t = true) : ((x >>> (nI t &&& 31)) &&& 1) = 1 := by rw [bg_bit x ht, if_pos h]
theorem bg_bitF {x : Int32} {t : Nat} (ht : t < 32) (h : ¬ bt x t = true) : ¬ ((x >>> (nI t &&& 31)) &&& 1) = 1 := by
  rw [bg_bit x ht, if_neg h]
  decide
def bg_bb (q : Nat) : Int32 := (1 : Int32) <<< (nI q &&& 31)
theorem bg_bbt {q : Nat} (hq : q < 32) (j : Nat) : bt (bg_bb q) j = decide (j = q) := by
  rcases Nat.lt_or_ge j 32 with h | h
  · unfold bg_bb
    rw [b_shl q hq 1 h, bg_b1]
    by_cases e : j = q
    · subst e
      rw [decide_eq_true (Nat.le_refl j), decide_eq_true (Nat.sub_self j), decide_eq_true rfl]; rfl
    · rw [decide_eq_false e]
      by_cases h2 : q ≤ j
      · rw [decide_eq_false (by omega : ¬ j - q = 0), Bool.and_false]
      · rw [decide_eq_false h2, Bool.false_and]
  · rw [b_big h, decide_eq_false (by omega)]
def bg_it (P : Nat → Nat) (t : Nat) : Nat → Int32
  | 0 => 0
  | i + 1 => if P (t * 3 + i) < 8 then bg_it P t i else bg_it P t i ||| bg_bb (P (t * 3 + i) - 8)
theorem bg_itL {P : Nat → Nat} {t i : Nat} (h : P (t * 3 + i) < 8) : bg_it P t (i + 1) = bg_it P t i := if_pos h
theorem bg_itH {P : Nat → Nat} {t i : Nat} (h : 8 ≤ P (t * 3 + i)) : bg_it P t (i + 1) = bg_it P t i ||| bg_bb (P (t * 3 + i) - 8) := if_neg (by omega)
theorem bg_itM {P : Nat → Nat} {t : Nat} (ht : t < 12) : ∀ n i, (∀ i, i < n → P (t * 3 + i) < 8 + t) → i < n → 8 ≤ P (t * 3 + i) → bt (bg_it P t n) (P (t * 3 + i) - 8) = true := by
  intro n
  induction n with
  | zero => intro i _ hi; exact absurd hi (by omega)
  | succ n ih =>
    intro i hb hi h8
    have hn := hb n (by omega)
    by_cases h : P (t * 3 + n) < 8
    · rw [bg_itL h]
      by_cases e : i = n
      · subst e; exact absurd h (by omega)
      · exact ih i (fun j hj => hb j (by omega)) (by omega) h8
    · rw [bg_itH (by omega), b_or, bg_bbt (by omega)]
      by_cases e : i = n
      · subst e; rw [decide_eq_true rfl, Bool.or_true]
      · rw [ih i (fun j hj => hb j (by omega)) (by omega) h8, Bool.true_or]
theorem bg_itB {P : Nat → Nat} {t : Nat} (ht : t < 12) {j : Nat} : ∀ n, (∀ i, i < n → P (t * 3 + i) < 8 + t) → t ≤ j → bt (bg_it P t n) j = false := by
  intro n
  induction n with
  | zero => intro _ _; exact b_0 j
  | succ n ih =>
    intro hb hj
    have hn := hb n (by omega)
    have := ih (fun j hj => hb j (by omega)) hj
    by_cases h : P (t * 3 + n) < 8
    · rw [bg_itL h]; exact this
    · rw [bg_itH (by omega), b_or, bg_bbt (by omega), this, decide_eq_false (by omega)]; rfl
def bg_ds (C P : Nat → Nat) (m : Nat) (s : Int32) : Int32 := if bt s m = true then s ||| bg_it P m (C m) else s
theorem bg_dsT {C P : Nat → Nat} {m : Nat} {s : Int32} (h : bt s m = true) : bg_ds C P m s = s ||| bg_it P m (C m) := if_pos h
theorem bg_dsF {C P : Nat → Nat} {m : Nat} {s : Int32} (h : ¬ bt s m = true) : bg_ds C P m s = s := if_neg h
def bg_dn (C P : Nat → Nat) : Nat → Int32 → Int32
  | 0, s => s
  | m + 1, s => bg_dn C P m (bg_ds C P m s)
theorem bg_dsU {C P : Nat → Nat} {m : Nat} {s : Int32} {j : Nat} (h : bt s j = true) : bt (bg_ds C P m s) j = true := by
  by_cases hb : bt s m = true
  · rw [bg_dsT hb, b_or, h, Bool.true_or]
  · rw [bg_dsF hb]; exact h
theorem bg_dnU {C P : Nat → Nat} {j : Nat} : ∀ (m : Nat) (s : Int32), bt s j = true → bt (bg_dn C P m s) j = true := by
  intro m
  induction m with
  | zero => intro s h; exact h
  | succ m ih => intro s h; exact ih _ (bg_dsU h)
theorem bg_dsH {C P : Nat → Nat} {m : Nat} {s : Int32} {j : Nat} (hm : m < 12) (hb : ∀ i, i < C m → P (m * 3 + i) < 8 + m) (hj : m ≤ j) : bt (bg_ds C P m s) j = bt s j := by
  by_cases h : bt s m = true
  · rw [bg_dsT h, b_or, bg_itB hm _ hb hj, Bool.or_false]
  · rw [bg_dsF h]
theorem bg_dnH {C P : Nat → Nat} (hb : ∀ t i, i < C t → P (t * 3 + i) < 8 + t) {j : Nat} : ∀ (m : Nat) (s : Int32), m ≤ 12 → m ≤ j → bt (bg_dn C P m s) j = bt s j := by
  intro m
  induction m with
  | zero => intro s _ _; rfl
  | succ m ih =>
    intro s hm hj
    show bt (bg_dn C P m (bg_ds C P m s)) j = _
    rw [ih _ (by omega) (by omega), bg_dsH (by omega) (hb m) (by omega)]
theorem bg_dnC {C P : Nat → Nat} (hb : ∀ t i, i < C t → P (t * 3 + i) < 8 + t) : ∀ (m : Nat) (s : Int32), m ≤ 12 → ∀ t i, t < m → i < C t → 8 ≤ P (t * 3 + i) → bt (bg_dn C P m s) t = true → bt (bg_dn C P m s) (P (t * 3 + i) - 8) = true := by
  intro m
  induction m with
  | zero => intro s _ t i ht; exact absurd ht (by omega)
  | succ m ih =>
    intro s hm t i ht hi h8 hbt
    by_cases e : t = m
    · subst e
      have h1 : bt (bg_dn C P t (bg_ds C P t s)) t = true := hbt
      rw [bg_dnH hb t _ (by omega) (by omega), bg_dsH (by omega) (hb t) (by omega)] at h1
      refine bg_dnU t _ ?_
      rw [bg_dsT h1, b_or, bg_itM (by omega) (C t) i (hb t) hi h8, Bool.or_true]
    · exact ih _ (by omega) t i (by omega) hi h8 hbt
/-- what a build of task q needs -/
def bg_ms (C P : Nat → Nat) (q : Nat) : Int32 := bg_dn C P (q + 1) (bg_bb q)
theorem bg_msB {C P : Nat → Nat} (hb : ∀ t i, i < C t → P (t * 3 + i) < 8 + t) {q : Nat} (hq : q < 12) {j : Nat} (hj : q < j) : ¬ bt (bg_ms C P q) j = true := by
  unfold bg_ms
  rw [bg_dnH hb (q + 1) _ (by omega) (by omega), bg_bbt (by omega), decide_eq_false (by omega)]
  decide
theorem bg_msC {C P : Nat → Nat} (hb : ∀ t i, i < C t → P (t * 3 + i) < 8 + t) {q : Nat} (hq : q < 12) {t i : Nat} (hi : i < C t) (h8 : 8 ≤ P (t * 3 + i)) (ht : bt (bg_ms C P q) t = true) : bt (bg_ms C P q) (P (t * 3 + i) - 8) = true := by
  have h : t < q + 1 := by
    rcases Nat.lt_or_ge t (q + 1) with h | h
    · exact h
    · exact absurd ht (bg_msB hb hq h)
  exact bg_dnC hb (q + 1) _ (by omega) t i h hi h8 ht
/-! counting bits -/
def bg_cn (s : Int32) : Nat → Int32
  | 0 => 0
  | t + 1 => bg_cn s t + ((s >>> (nI t &&& 31)) &&& 1)
end
section
/-! X: methods that read -/
section
variable {f_revision f_tasks f_builds f_records f_total : Int32}
variable {a_contents a_contentRevision a_kind a_constants a_inputs a_input a_taskRevision a_hasLast a_lastConstant a_lastInputs a_lastValue a_seenRevision a_outputs a_outputRevision a_newest a_older a_hash a_keptConstant a_keptInputs a_keptValue a_value a_outcome a_now : Nat → Int32}
variable {C P LN KN own : Nat → Nat} {t N : Nat}
theorem xa_load {x2 : Int32} {o : Nat → Int32} {post : SX → Prop} (ht : t < 12) (hC : ∀ j, a_inputs j = nI (C j)) (hP : ∀ j, a_input j = nI (P j)) (h3 : C t ≤ 3) (hb : ∀ i, i < C t → P (t * 3 + i) < 8 + t) (ho0 : x2 = 0 → a_outputs = o) (ho1 : ¬ x2 = 0 → a_now = o) (hp : post (f_revision, f_tasks, f_builds, f_records, f_total, a_contents, a_contentRevision, a_kind, a_constants, a_inputs, a_input, a_taskRevision, a_hasLast, a_lastConstant, a_lastInputs, a_lastValue, a_seenRevision, a_outputs, a_outputRevision, a_newest, a_older, a_hash, a_keptConstant, a_keptInputs, a_keptValue, bg_cp a_value 0 (fun i => bg_vl a_contents o (P (t * 3 + i))) (C t), a_outcome, a_now)) : ∀ d i n, i + d = C t → d < n → wX_loadRecord_2 post (nI t) x2 f_revision f_tasks f_builds f_records f_total n (nI i) a_contents a_contentRevision a_kind a_constants a_inputs a_input a_taskRevision a_hasLast a_lastConstant a_lastInputs a_lastValue a_seenRevision a_outputs a_outputRevision a_newest a_older a_hash a_keptConstant a_keptInputs a_keptValue (bg_cp a_value 0 (fun i => bg_vl a_contents o (P (t * 3 + i))) i) a_outcome a_now := by
  have hin : vp_in (nI t) 12 := vp_in_nI ht (by omega)
  have hc : a_inputs (nI t).toNatClampNeg = nI (C t) := by rw [nI_clamp (by omega)]; exact hC t
  intro d
  induction d with
  | zero =>
    intro i n hi hn
    obtain ⟨m, rfl⟩ : ∃ m, n = m + 1 := ⟨n - 1, by omega⟩
    have e : i = C t := by omega
    subst e
    exact And.intro hin (pk_le (C t) (C t) (fun _ => hp) (fun h => absurd h (by omega)) hc rfl)
  | succ d ih =>
    intro i n hi hn
    obtain ⟨m, rfl⟩ : ∃ m, n = m + 1 := ⟨n - 1, by omega⟩
    have hbi := hb i (by omega)
    have hi36 : vp_in (nI t * 3 + nI i) 36 := by rw [bg_i3]; exact vp_in_nI (by omega) (by omega)
    have hpi : a_input (nI t * 3 + nI i).toNatClampNeg = nI (P (t * 3 + i)) := by rw [bg_i3, nI_clamp (by omega)]; exact hP _
    have hi3 : vp_in (nI i) 3 := vp_in_nI (by omega) (by omega)
    have K := ih (i + 1) m (by omega) (by omega)
    refine And.intro hin (pk_le (C t) i (fun h => absurd h (by omega)) (fun _ => And.intro hi36 (nm_r hpi ?_)) hc rfl)
    refine pk_le 8 (P (t * 3 + i)) (fun h8 => ?_) (fun h8 => ?_) rfl rfl
    · have e8 : nI (P (t * 3 + i)) - 8 = nI (P (t * 3 + i) - 8) := pk_sub (b := 8) h8
      have hi8 : vp_in (nI (P (t * 3 + i)) - 8) 12 := by rw [e8]; exact vp_in_nI (by omega) (by omega)
      refine br_c (fun h0 => And.intro hi8 (And.intro hi3 (nm_r (e' := bg_cp a_value 0 (fun i => bg_vl a_contents o (P (t * 3 + i))) (i + 1)) ?_ (nm_r (nI_1 i) K)))) (fun h0 => And.intro hi8 (And.intro hi3 (nm_r (e' := bg_cp a_value 0 (fun i => bg_vl a_contents o (P (t * 3 + i))) (i + 1)) ?_ (nm_r (nI_1 i) K))))
      · refine bg_cps (by rw [nI_clamp (by omega), Nat.zero_add]) ?_
        rw [e8, nI_clamp (by omega), ho0 h0]
        exact (bg_vlH h8).symm
      · refine bg_cps (by rw [nI_clamp (by omega), Nat.zero_add]) ?_
        rw [e8, nI_clamp (by omega), ho1 h0]
        exact (bg_vlH h8).symm
    · refine And.intro (vp_in_nI h8 (by omega)) (And.intro hi3 (nm_r (e' := bg_cp a_value 0 (fun i => bg_vl a_contents o (P (t * 3 + i))) (i + 1)) ?_ (nm_r (nI_1 i) K)))
      refine bg_cps (by rw [nI_clamp (by omega), Nat.zero_add]) ?_
      rw [nI_clamp (by omega)]
      exact (bg_vlL h8).symm
theorem xa_loadRecord {x2 : Int32} {o : Nat → Int32} {post : SX → Prop} (ht : t < 12) (hC : ∀ j, a_inputs j = nI (C j)) (hP : ∀ j, a_input j = nI (P j)) (h3 : C t ≤ 3) (hb : ∀ i, i < C t → P (t * 3 + i) < 8 + t) (ho0 : x2 = 0 → a_outputs = o) (ho1 : ¬ x2 = 0 → a_now = o) (hp : post (f_revision, f_tasks, f_builds, f_records, f_total, a_contents, a_contentRevision, a_kind, a_constants, a_inputs, a_input, a_taskRevision, a_hasLast, a_lastConstant, a_lastInputs, a_lastValue, a_seenRevision, a_outputs, a_outputRevision, a_newest, a_older, a_hash, a_keptConstant, a_keptInputs, a_keptValue, bg_cp a_value 0 (fun i => bg_vl a_contents o (P (t * 3 + i))) (C t), a_outcome, a_now)) : wpX_loadRecord post (f_revision, f_tasks, f_builds, f_records, f_total, a_contents, a_contentRevision, a_kind, a_constants, a_inputs, a_input, a_taskRevision, a_hasLast, a_lastConstant, a_lastInputs, a_lastValue, a_seenRevision, a_outputs, a_outputRevision, a_newest, a_older, a_hash, a_keptConstant, a_keptInputs, a_keptValue, a_value, a_outcome, a_now) (nI t) x2 := by
  have K : wX_loadRecord_2 post (nI t) x2 f_revision f_tasks f_builds f_records f_total (C t + 1) (nI 0) a_contents a_contentRevision a_kind a_constants a_inputs a_input a_taskRevision a_hasLast a_lastConstant a_lastInputs a_lastValue a_seenRevision a_outputs a_outputRevision a_newest a_older a_hash a_keptConstant a_keptInputs a_keptValue (bg_cp a_value 0 (fun i => bg_vl a_contents o (P (t * 3 + i))) 0) a_outcome a_now := xa_load ht hC hP h3 hb ho0 ho1 hp (C t) 0 (C t + 1) (by omega) (by omega)
  rw [bg_cp0] at K
  exact ⟨C t + 1, K⟩
theorem xa_resL {post : Int32 → Prop} {x0 : Int32} (ht : t < 12) (hC : ∀ j, a_inputs j = nI (C j)) (h3 : C t ≤ 3) (hp : post (if a_kind t = 3 then bg_fd (a_kind t) a_value (C t) x0 &&& 15 else bg_fd (a_kind t) a_value (C t) x0)) : ∀ d i n, i + d = C t → d < n → wX_result_23 post (nI t) f_revision f_tasks f_builds f_records f_total a_contents a_contentRevision a_kind a_constants a_inputs a_input a_taskRevision a_hasLast a_lastConstant a_lastInputs a_lastValue a_seenRevision a_outputs a_outputRevision a_newest a_older a_hash a_keptConstant a_keptInputs a_keptValue a_value a_outcome a_now n (bg_fd (a_kind t) a_value i x0) (nI i) := by
  have hin : vp_in (nI t) 12 := vp_in_nI ht (by omega)
  have hc : a_inputs (nI t).toNatClampNeg = nI (C t) := by rw [nI_clamp (by omega)]; exact hC t
  have hk : a_kind (nI t).toNatClampNeg = a_kind t := by rw [nI_clamp (by omega)]
  intro d
  induction d with
  | zero =>
    intro i n hi hn
    obtain ⟨m, rfl⟩ : ∃ m, n = m + 1 := ⟨n - 1, by omega⟩
    have e : i = C t := by omega
    subst e
    refine And.intro hin (pk_le (C t) (C t) (fun _ => And.intro hin (br_c (fun h => ?_) (fun h => ?_))) (fun h => absurd h (by omega)) hc rfl)
    · rw [hk] at h
      rw [if_pos h] at hp
      exact hp
    · rw [hk] at h
      rw [if_neg h] at hp
      exact hp
  | succ d ih =>
    intro i n hi hn
    obtain ⟨m, rfl⟩ : ∃ m, n = m + 1 := ⟨n - 1, by omega⟩
    have hv : a_value (nI i).toNatClampNeg = a_value i := by rw [nI_clamp (by omega)]
    have hi3 : vp_in (nI i) 3 := vp_in_nI (by omega) (by omega)
    have K := ih (i + 1) m (by omega) (by omega)
    have e : bg_fd (a_kind t) a_value (i + 1) x0 = bg_sp (a_kind t) (bg_fd (a_kind t) a_value i x0) (a_value i) := rfl
    rw [e] at K
    refine And.intro hin (pk_le (C t) i (fun h => absurd h (by omega)) (fun _ => And.intro hi3 (nm_r hv (And.intro hin ?_))) hc rfl)
    refine br_c (fun h1 => ?_) (fun h1 => And.intro hin (br_c (fun h2 => br_c (fun hle => ?_) (fun hle => ?_)) (fun h2 => ?_)))
    · rw [hk] at h1
      unfold bg_sp at K
      rw [if_pos h1] at K
      exact nm_e (nm_r (nI_1 i) K)
    · rw [hk] at h1 h2
      unfold bg_sp at K
      rw [if_neg h1, if_pos h2, if_pos hle] at K
      exact nm_r (nI_1 i) K
    · rw [hk] at h1 h2
      unfold bg_sp at K
      rw [if_neg h1, if_pos h2, if_neg hle] at K
      exact nm_r (nI_1 i) K
    · rw [hk] at h1 h2
      unfold bg_sp at K
      rw [if_neg h1, if_neg h2] at K
      exact nm_e (nm_r (nI_1 i) K)
theorem xa_result {post : Int32 → Prop} (ht : t < 12) (hC : ∀ j, a_inputs j = nI (C j)) (h3 : C t ≤ 3) (hp : post (bg_rs (a_kind t) (a_constants t) (C t) a_value)) : wpX_result post (f_revision, f_tasks, f_builds, f_records, f_total, a_contents, a_contentRevision, a_kind, a_constants, a_inputs, a_input, a_taskRevision, a_hasLast, a_lastConstant, a_lastInputs, a_lastValue, a_seenRevision, a_outputs, a_outputRevision, a_newest, a_older, a_hash, a_keptConstant, a_keptInputs, a_keptValue, a_value, a_outcome, a_now) (nI t) := by
  have hin : vp_in (nI t) 12 := vp_in_nI ht (by omega)
  have hk : a_kind (nI t).toNatClampNeg = a_kind t := by rw [nI_clamp (by omega)]
  have hcs : a_constants (nI t).toNatClampNeg = a_constants t := by rw [nI_clamp (by omega)]
  unfold bg_rs at hp
  refine And.intro hin (br_c (fun h => ?_) (fun h => And.intro hin (nm_r hcs ?_)))
  · rw [hk] at h
    rw [if_pos h] at hp
    exact ⟨C t + 1, xa_resL (x0 := 0) ht hC h3 (by rw [if_pos h]; exact hp) (C t) 0 (C t + 1) (by omega) (by omega)⟩
  · rw [hk] at h
    rw [if_neg h] at hp
    exact ⟨C t + 1, xa_resL (x0 := a_constants t) ht hC h3 (by rw [if_neg h]; exact hp) (C t) 0 (C t + 1) (by omega) (by omega)⟩
theorem xa_hashL {post : Int32 → Prop} {x0 : Int32} (ht : t < 12) (hC : ∀ j, a_inputs j = nI (C j)) (h3 : C t ≤ 3) (hp : post (bg_fh a_value (C t) x0)) : ∀ d i n, i + d = C t → d < n → wX_hashOf_19 post (nI t) f_revision f_tasks f_builds f_records f_total a_contents a_contentRevision a_kind a_constants a_inputs a_input a_taskRevision a_hasLast a_lastConstant a_lastInputs a_lastValue a_seenRevision a_outputs a_outputRevision a_newest a_older a_hash a_keptConstant a_keptInputs a_keptValue a_value a_outcome a_now n (bg_fh a_value i x0) (nI i) := by
  have hin : vp_in (nI t) 12 := vp_in_nI ht (by omega)
  have hc : a_inputs (nI t).toNatClampNeg = nI (C t) := by rw [nI_clamp (by omega)]; exact hC t
  intro d
  induction d with
  | zero =>
    intro i n hi hn
    obtain ⟨m, rfl⟩ : ∃ m, n = m + 1 := ⟨n - 1, by omega⟩
    have e : i = C t := by omega
    subst e
    exact And.intro hin (pk_le (C t) (C t) (fun _ => hp) (fun h => absurd h (by omega)) hc rfl)
  | succ d ih =>
    intro i n hi hn
    obtain ⟨m, rfl⟩ : ∃ m, n = m + 1 := ⟨n - 1, by omega⟩
    have hv : bg_fh a_value i x0 * 31 + a_value (nI i).toNatClampNeg = bg_fh a_value (i + 1) x0 := by rw [nI_clamp (by omega)]; rfl
    have hi3 : vp_in (nI i) 3 := vp_in_nI (by omega) (by omega)
    have K := ih (i + 1) m (by omega) (by omega)
    exact And.intro hin (pk_le (C t) i (fun h => absurd h (by omega)) (fun _ => And.intro hi3 (nm_r hv (nm_r (nI_1 i) K))) hc rfl)
theorem xa_hashOf {post : Int32 → Prop} (ht : t < 12) (hC : ∀ j, a_inputs j = nI (C j)) (h3 : C t ≤ 3) (hp : post (bg_hh (a_constants t) (C t) a_value)) : wpX_hashOf post (f_revision, f_tasks, f_builds, f_records, f_total, a_contents, a_contentRevision, a_kind, a_constants, a_inputs, a_input, a_taskRevision, a_hasLast, a_lastConstant, a_lastInputs, a_lastValue, a_seenRevision, a_outputs, a_outputRevision, a_newest, a_older, a_hash, a_keptConstant, a_keptInputs, a_keptValue, a_value, a_outcome, a_now) (nI t) := by
  have hin : vp_in (nI t) 12 := vp_in_nI ht (by omega)
  have e : a_constants (nI t).toNatClampNeg * 31 + a_inputs (nI t).toNatClampNeg = a_constants t * 31 + nI (C t) := by rw [nI_clamp (by omega), hC t]
  exact And.intro hin (And.intro hin (nm_r e ⟨C t + 1, xa_hashL ht hC h3 hp (C t) 0 (C t + 1) (by omega) (by omega)⟩))
theorem xa_lastL {post : Int32 → Prop} (ht : t < 12) (hC : ∀ j, a_inputs j = nI (C j)) (h3 : C t ≤ 3) (h1 : (∀ i, i < C t → a_lastValue (t * 3 + i) = a_value i) → post 1) (h0 : (¬ ∀ i, i < C t → a_lastValue (t * 3 + i) = a_value i) → post 0) : ∀ d i n, i + d = C t → d < n → (∀ j, j < i → a_lastValue (t * 3 + j) = a_value j) → wX_isLast_43 post (nI t) f_revision f_tasks f_builds f_records f_total a_contents a_contentRevision a_kind a_constants a_inputs a_input a_taskRevision a_hasLast a_lastConstant a_lastInputs a_lastValue a_seenRevision a_outputs a_outputRevision a_newest a_older a_hash a_keptConstant a_keptInputs a_keptValue a_value a_outcome a_now n (nI i) := by
  have hin : vp_in (nI t) 12 := vp_in_nI ht (by omega)
  have hc : a_inputs (nI t).toNatClampNeg = nI (C t) := by rw [nI_clamp (by omega)]; exact hC t
  intro d
  induction d with
  | zero =>
    intro i n hi hn hj
    obtain ⟨m, rfl⟩ : ∃ m, n = m + 1 := ⟨n - 1, by omega⟩
    have e : i = C t := by omega
    subst e
    exact And.intro hin (pk_le (C t) (C t) (fun _ => h1 hj) (fun h => absurd h (by omega)) hc rfl)
  | succ d ih =>
    intro i n hi hn hj
    obtain ⟨m, rfl⟩ : ∃ m, n = m + 1 := ⟨n - 1, by omega⟩
    have hi36 : vp_in (nI t * 3 + nI i) 36 := by rw [bg_i3]; exact vp_in_nI (by omega) (by omega)
    have hi3 : vp_in (nI i) 3 := vp_in_nI (by omega) (by omega)
    have el : a_lastValue (nI t * 3 + nI i).toNatClampNeg = a_lastValue (t * 3 + i) := by rw [bg_i3, nI_clamp (by omega)]
    have ev : a_value (nI i).toNatClampNeg = a_value i := by rw [nI_clamp (by omega)]
    refine And.intro hin (pk_le (C t) i (fun h => absurd h (by omega)) (fun _ => And.intro hi36 (And.intro hi3 (br_c (fun h => ?_) (fun h => ?_)))) hc rfl)
    · rw [el, ev] at h
      exact nm_r (nI_1 i) (ih (i + 1) m (by omega) (by omega) (lt_s hj h))
    · rw [el, ev] at h
      exact h0 (fun z => h (z i (by omega)))
theorem xa_isLast {post : Int32 → Prop} (ht : t < 12) (hC : ∀ j, a_inputs j = nI (C j)) (h3 : C t ≤ 3) (hL : ∀ j, a_lastInputs j = nI (LN j)) (hL3 : LN t ≤ 3) (h1 : a_hasLast t ≠ 0 → bg_sm (a_lastConstant t) (a_constants t) (LN t) (C t) (fun i => a_lastValue (t * 3 + i)) a_value → post 1) (h0 : ¬ (a_hasLast t ≠ 0 ∧ bg_sm (a_lastConstant t) (a_constants t) (LN t) (C t) (fun i => a_lastValue (t * 3 + i)) a_value) → post 0) : wpX_isLast post (f_revision, f_tasks, f_builds, f_records, f_total, a_contents, a_contentRevision, a_kind, a_constants, a_inputs, a_input, a_taskRevision, a_hasLast, a_lastConstant, a_lastInputs, a_lastValue, a_seenRevision, a_outputs, a_outputRevision, a_newest, a_older, a_hash, a_keptConstant, a_keptInputs, a_keptValue, a_value, a_outcome, a_now) (nI t) := by
  have hin : vp_in (nI t) 12 := vp_in_nI ht (by omega)
  have hc : a_inputs (nI t).toNatClampNeg = nI (C t) := by rw [nI_clamp (by omega)]; exact hC t
  have hl : a_lastInputs (nI t).toNatClampNeg = nI (LN t) := by rw [nI_clamp (by omega)]; exact hL t
  have e1 : a_hasLast (nI t).toNatClampNeg = a_hasLast t := by rw [nI_clamp (by omega)]
  have e2 : a_lastConstant (nI t).toNatClampNeg = a_lastConstant t := by rw [nI_clamp (by omega)]
  have e3 : a_constants (nI t).toNatClampNeg = a_constants t := by rw [nI_clamp (by omega)]
  refine And.intro hin (br_c (fun h => ?_) (fun h => And.intro hin (And.intro hin (br_c (fun g => And.intro hin (And.intro hin (pk_eq (LN t) (C t) (fun q => ?_) (fun q => ?_) hl hc))) (fun g => ?_)))))
  · rw [e1] at h
    exact h0 (fun z => z.1 h)
  · rw [e1] at h
    rw [e2, e3] at g
    exact ⟨C t + 1, xa_lastL ht hC h3 (fun z => h1 h ⟨g, q, z⟩) (fun z => h0 (fun y => z y.2.2.2)) (C t) 0 (C t + 1) (by omega) (by omega) lt_0⟩
  · exact h0 (fun z => q z.2.2.1)
  · rw [e2, e3] at g
    exact h0 (fun z => g z.2.1)
theorem xa_recL {post : Int32 → Prop} {r : Nat} (hr : r < 480) (ht : t < 12) (hC : ∀ j, a_inputs j = nI (C j)) (h3 : C t ≤ 3) (h1 : (∀ i, i < C t → a_keptValue (r * 3 + i) = a_value i) → post 1) (h0 : (¬ ∀ i, i < C t → a_keptValue (r * 3 + i) = a_value i) → post 0) : ∀ d i n, i + d = C t → d < n → (∀ j, j < i → a_keptValue (r * 3 + j) = a_value j) → wX_isRecord_45 post (nI t) (nI r) f_revision f_tasks f_builds f_records f_total a_contents a_contentRevision a_kind a_constants a_inputs a_input a_taskRevision a_hasLast a_lastConstant a_lastInputs a_lastValue a_seenRevision a_outputs a_outputRevision a_newest a_older a_hash a_keptConstant a_keptInputs a_keptValue a_value a_outcome a_now n (nI i) := by
  have hin : vp_in (nI t) 12 := vp_in_nI ht (by omega)
  have hc : a_inputs (nI t).toNatClampNeg = nI (C t) := by rw [nI_clamp (by omega)]; exact hC t
  intro d
  induction d with
  | zero =>
    intro i n hi hn hj
    obtain ⟨m, rfl⟩ : ∃ m, n = m + 1 := ⟨n - 1, by omega⟩
    have e : i = C t := by omega
    subst e
    exact And.intro hin (pk_le (C t) (C t) (fun _ => h1 hj) (fun h => absurd h (by omega)) hc rfl)
  | succ d ih =>
    intro i n hi hn hj
    obtain ⟨m, rfl⟩ : ∃ m, n = m + 1 := ⟨n - 1, by omega⟩
    have hi36 : vp_in (nI r * 3 + nI i) 1440 := by rw [bg_i3]; exact vp_in_nI (by omega) (by omega)
    have hi3 : vp_in (nI i) 3 := vp_in_nI (by omega) (by omega)
    have el : a_keptValue (nI r * 3 + nI i).toNatClampNeg = a_keptValue (r * 3 + i) := by rw [bg_i3, nI_clamp (by omega)]
    have ev : a_value (nI i).toNatClampNeg = a_value i := by rw [nI_clamp (by omega)]
    refine And.intro hin (pk_le (C t) i (fun h => absurd h (by omega)) (fun _ => And.intro hi36 (And.intro hi3 (br_c (fun h => ?_) (fun h => ?_)))) hc rfl)
    · rw [el, ev] at h
      exact nm_r (nI_1 i) (ih (i + 1) m (by omega) (by omega) (lt_s hj h))
    · rw [el, ev] at h
      exact h0 (fun z => h (z i (by omega)))
theorem xa_isRecord {post : Int32 → Prop} {r : Nat} {h : Int32} (hr : r < 480) (ht : t < 12) (hC : ∀ j, a_inputs j = nI (C j)) (h3 : C t ≤ 3) (hK : ∀ j, a_keptInputs j = nI (KN j)) (hK3 : KN r ≤ 3) (h1 : bg_sm (a_keptConstant r) (a_constants t) (KN r) (C t) (fun i => a_keptValue (r * 3 + i)) a_value → post 1) (h0 : ¬ (a_hash r = h ∧ bg_sm (a_keptConstant r) (a_constants t) (KN r) (C t) (fun i => a_keptValue (r * 3 + i)) a_value) → post 0) : wpX_isRecord post (f_revision, f_tasks, f_builds, f_records, f_total, a_contents, a_contentRevision, a_kind, a_constants, a_inputs, a_input, a_taskRevision, a_hasLast, a_lastConstant, a_lastInputs, a_lastValue, a_seenRevision, a_outputs, a_outputRevision, a_newest, a_older, a_hash, a_keptConstant, a_keptInputs, a_keptValue, a_value, a_outcome, a_now) (nI t) (nI r) h := by
  have hin : vp_in (nI t) 12 := vp_in_nI ht (by omega)
  have hir : vp_in (nI r) 480 := vp_in_nI hr (by omega)
  have hc : a_inputs (nI t).toNatClampNeg = nI (C t) := by rw [nI_clamp (by omega)]; exact hC t
  have hl : a_keptInputs (nI r).toNatClampNeg = nI (KN r) := by rw [nI_clamp (by omega)]; exact hK r
  have e1 : a_hash (nI r).toNatClampNeg = a_hash r := by rw [nI_clamp (by omega)]
  have e2 : a_keptConstant (nI r).toNatClampNeg = a_keptConstant r := by rw [nI_clamp (by omega)]
  have e3 : a_constants (nI t).toNatClampNeg = a_constants t := by rw [nI_clamp (by omega)]
  refine And.intro hir (br_c (fun g0 => And.intro hir (And.intro hin (br_c (fun g => And.intro hir (And.intro hin (pk_eq (KN r) (C t) (fun q => ?_) (fun q => ?_) hl hc))) (fun g => ?_)))) (fun g0 => ?_))
  · rw [e2, e3] at g
    exact ⟨C t + 1, xa_recL hr ht hC h3 (fun z => h1 ⟨g, q, z⟩) (fun z => h0 (fun y => z y.2.2.2)) (C t) 0 (C t + 1) (by omega) (by omega) lt_0⟩
  · exact h0 (fun z => q z.2.2.1)
  · rw [e2, e3] at g
    exact h0 (fun z => g z.2.1)
  · rw [e1] at g0
    exact h0 (fun z => g0 z.1)
/-- record r of X's store is the record at hand of task t -/
theorem xa_storeL {post : Int32 → Prop} (hN : N ≤ 480) (ht : t < 12) (hC : ∀ j, a_inputs j = nI (C j)) (h3 : C t ≤ 3) (hK : ∀ j, a_keptInputs j = nI (KN j)) (hK3 : ∀ j, KN j ≤ 3) (hO : ∀ r, r < N → a_older r = bg_pv own (own r) r) (hH : ∀ r, r < N → a_hash r = bg_hh (a_keptConstant r) (KN r) (fun i => a_keptValue (r * 3 + i))) (h1 : (∃ r, r < N ∧ own r = t ∧ bg_sm (a_keptConstant r) (a_constants t) (KN r) (C t) (fun i => a_keptValue (r * 3 + i)) a_value) → post 1) (h0 : ¬ (∃ r, r < N ∧ own r = t ∧ bg_sm (a_keptConstant r) (a_constants t) (KN r) (C t) (fun i => a_keptValue (r * 3 + i)) a_value) → post 0) : ∀ b m k n, m ≤ b → k + m ≤ 480 → m ≤ N → b < n → (∀ r, m ≤ r → r < N → own r = t → ¬ bg_sm (a_keptConstant r) (a_constants t) (KN r) (C t) (fun i => a_keptValue (r * 3 + i)) a_value) → wX_inStore_16 post (nI t) (bg_hh (a_constants t) (C t) a_value) f_revision f_tasks f_builds f_records f_total a_contents a_contentRevision a_kind a_constants a_inputs a_input a_taskRevision a_hasLast a_lastConstant a_lastInputs a_lastValue a_seenRevision a_outputs a_outputRevision a_newest a_older a_hash a_keptConstant a_keptInputs a_keptValue a_value a_outcome a_now n (bg_pv own t m) (nI k) := by
  intro b
  induction b with
  | zero =>
    intro m k n hm hk hmN hn hq
    obtain ⟨n', rfl⟩ : ∃ m, n = m + 1 := ⟨n - 1, by omega⟩
    have e : m = 0 := by omega
    subst e
    have hz : post 0 := h0 (fun z => by
      obtain ⟨r, r1, r2, r3⟩ := z
      exact hq r (by omega) r1 r2 r3)
    exact br_c (fun _ => hz) (fun _ => br_t (show (-1 : Int32) < 0 by decide) hz)
  | succ b ih =>
    intro m k n hm hk hmN hn hq
    obtain ⟨n', rfl⟩ : ∃ m, n = m + 1 := ⟨n - 1, by omega⟩
    rcases bg_pvD own t m with ⟨e1, e2⟩ | ⟨r, r1, r2, r3, r4⟩
    · rw [e1]
      have hz : post 0 := h0 (fun z => by
        obtain ⟨r, r1, r2, r3⟩ := z
        rcases Nat.lt_or_ge r m with h | h
        · exact e2 r h r2
        · exact hq r h r1 r2 r3)
      exact br_c (fun _ => hz) (fun _ => br_t (by decide) hz)
    · rw [r3]
      refine pk_le 480 k (fun h => absurd h (by omega)) (fun _ => br_f (nI_pos (by omega)) ?_) rfl rfl
      refine xa_isRecord (by omega) ht hC h3 hK (hK3 r) (fun hs => ?_) (fun hs => ?_)
      · exact br_f (by decide) (h1 ⟨r, by omega, r2, hs⟩)
      · have eo : a_older (nI r).toNatClampNeg = bg_pv own t r := by rw [nI_clamp (by omega), hO r (by omega), r2]
        refine br_t rfl (And.intro (vp_in_nI (by omega) (by omega)) (nm_r eo (nm_r (nI_1 k) (ih r (k + 1) n' (by omega) (by omega) (by omega) (by omega) ?_))))
        intro q q1 q2 q3 q4
        rcases Nat.lt_or_ge q m with h | h
        · by_cases e : q = r
          · subst e
            exact hs ⟨by rw [hH q (by omega)]; exact bg_hhC q4, q4⟩
          · exact r4 q (by omega) h q3
        · exact hq q h q2 q3 q4
theorem xa_inStore {post : Int32 → Prop} (hN : N ≤ 480) (ht : t < 12) (hC : ∀ j, a_inputs j = nI (C j)) (h3 : C t ≤ 3) (hK : ∀ j, a_keptInputs j = nI (KN j)) (hK3 : ∀ j, KN j ≤ 3) (hW : a_newest t = bg_pv own t N) (hO : ∀ r, r < N → a_older r = bg_pv own (own r) r) (hH : ∀ r, r < N → a_hash r = bg_hh (a_keptConstant r) (KN r) (fun i => a_keptValue (r * 3 + i))) (h1 : (∃ r, r < N ∧ own r = t ∧ bg_sm (a_keptConstant r) (a_constants t) (KN r) (C t) (fun i => a_keptValue (r * 3 + i)) a_value) → post 1) (h0 : ¬ (∃ r, r < N ∧ own r = t ∧ bg_sm (a_keptConstant r) (a_constants t) (KN r) (C t) (fun i => a_keptValue (r * 3 + i)) a_value) → post 0) : wpX_inStore post (f_revision, f_tasks, f_builds, f_records, f_total, a_contents, a_contentRevision, a_kind, a_constants, a_inputs, a_input, a_taskRevision, a_hasLast, a_lastConstant, a_lastInputs, a_lastValue, a_seenRevision, a_outputs, a_outputRevision, a_newest, a_older, a_hash, a_keptConstant, a_keptInputs, a_keptValue, a_value, a_outcome, a_now) (nI t) := by
  have hin : vp_in (nI t) 12 := vp_in_nI ht (by omega)
  have ew : a_newest (nI t).toNatClampNeg = bg_pv own t N := by rw [nI_clamp (by omega), hW]
  unfold wpX_inStore
  refine xa_hashOf ht hC h3 (And.intro hin (nm_r ew ⟨N + 1, ?_⟩))
  exact xa_storeL hN ht hC h3 hK hK3 hO hH h1 h0 N N 0 (N + 1) (by omega) (by omega) (by omega) (by omega) (fun r q1 q2 => absurd q1 (by omega))
theorem xa_inpL {post : Int32 → Prop} (ht : t < 12) (hC : ∀ j, a_inputs j = nI (C j)) (hP : ∀ j, a_input j = nI (P j)) (h3 : C t ≤ 3) (hb : ∀ i, i < C t → P (t * 3 + i) < 8 + t) (hp : post (bg_it P t (C t))) : ∀ d i n, i + d = C t → d < n → wX_inputTasks_4 post (nI t) f_revision f_tasks f_builds f_records f_total a_contents a_contentRevision a_kind a_constants a_inputs a_input a_taskRevision a_hasLast a_lastConstant a_lastInputs a_lastValue a_seenRevision a_outputs a_outputRevision a_newest a_older a_hash a_keptConstant a_keptInputs a_keptValue a_value a_outcome a_now n (bg_it P t i) (nI i) := by
  have hin : vp_in (nI t) 12 := vp_in_nI ht (by omega)
  have hc : a_inputs (nI t).toNatClampNeg = nI (C t) := by rw [nI_clamp (by omega)]; exact hC t
  intro d
  induction d with
  | zero =>
    intro i n hi hn
    obtain ⟨m, rfl⟩ : ∃ m, n = m + 1 := ⟨n - 1, by omega⟩
    have e : i = C t := by omega
    subst e
    exact And.intro hin (pk_le (C t) (C t) (fun _ => hp) (fun h => absurd h (by omega)) hc rfl)
  | succ d ih =>
    intro i n hi hn
    obtain ⟨m, rfl⟩ : ∃ m, n = m + 1 := ⟨n - 1, by omega⟩
    have hbi := hb i (by omega)
    have hi36 : vp_in (nI t * 3 + nI i) 36 := by rw [bg_i3]; exact vp_in_nI (by omega) (by omega)
    have hpi : a_input (nI t * 3 + nI i).toNatClampNeg = nI (P (t * 3 + i)) := by rw [bg_i3, nI_clamp (by omega)]; exact hP _
    have K := ih (i + 1) m (by omega) (by omega)
    refine And.intro hin (pk_le (C t) i (fun h => absurd h (by omega)) (fun _ => And.intro hi36 (nm_r hpi ?_)) hc rfl)
    refine pk_lt (P (t * 3 + i)) 8 (fun h8 => ?_) (fun h8 => ?_) rfl rfl
    · rw [bg_itL h8] at K
      exact nm_r (nI_1 i) K
    · have e8 : nI (P (t * 3 + i)) - 8 = nI (P (t * 3 + i) - 8) := pk_sub (b := 8) h8
      refine nm_r (e' := bg_it P t (i + 1)) ?_ (nm_r (nI_1 i) K)
      rw [bg_itH h8, e8]
      rfl
theorem xa_inputTasks {post : Int32 → Prop} (ht : t < 12) (hC : ∀ j, a_inputs j = nI (C j)) (hP : ∀ j, a_input j = nI (P j)) (h3 : C t ≤ 3) (hb : ∀ i, i < C t → P (t * 3 + i) < 8 + t) (hp : post (bg_it P t (C t))) : wpX_inputTasks post (f_revision, f_tasks, f_builds, f_records, f_total, a_contents, a_contentRevision, a_kind, a_constants, a_inputs, a_input, a_taskRevision, a_hasLast, a_lastConstant, a_lastInputs, a_lastValue, a_seenRevision, a_outputs, a_outputRevision, a_newest, a_older, a_hash, a_keptConstant, a_keptInputs, a_keptValue, a_value, a_outcome, a_now) (nI t) :=
  ⟨C t + 1, xa_inpL ht hC hP h3 hb hp (C t) 0 (C t + 1) (by omega) (by omega)⟩
theorem xa_needL {post : Int32 → Prop} (hC : ∀ j, a_inputs j = nI (C j)) (hP : ∀ j, a_input j = nI (P j)) (h3 : ∀ j, C j ≤ 3) (hb : ∀ t i, i < C t → P (t * 3 + i) < 8 + t) : ∀ m s n, m ≤ 12 → m < n → post (bg_dn C P m s) → wX_neededSet_6 post f_revision f_tasks f_builds f_records f_total a_contents a_contentRevision a_kind a_constants a_inputs a_input a_taskRevision a_hasLast a_lastConstant a_lastInputs a_lastValue a_seenRevision a_outputs a_outputRevision a_newest a_older a_hash a_keptConstant a_keptInputs a_keptValue a_value a_outcome a_now n s (nI m + (-1)) := by
  intro m
  induction m with
  | zero =>
    intro s n hm hn hp
    obtain ⟨n', rfl⟩ : ∃ m, n = m + 1 := ⟨n - 1, by omega⟩
    exact br_t (by decide) hp
  | succ m ih =>
    intro s n hm hn hp
    obtain ⟨n', rfl⟩ : ∃ m, n = m + 1 := ⟨n - 1, by omega⟩
    rw [pk_m1]
    refine br_f (nI_pos (by omega)) ?_
    have hp' : post (bg_dn C P m (bg_ds C P m s)) := hp
    by_cases hs : bt s m = true
    · rw [bg_dsT hs] at hp'
      exact br_t (bg_bitT (by omega) hs) (xa_inputTasks (by omega) hC hP (h3 m) (hb m) (nm_e (nm_e (ih _ n' (by omega) (by omega) hp'))))
    · rw [bg_dsF hs] at hp'
      exact br_f (bg_bitF (by omega) hs) (nm_e (ih _ n' (by omega) (by omega) hp'))
theorem xa_neededSet {post : Int32 → Prop} (ht : t < 12) (hC : ∀ j, a_inputs j = nI (C j)) (hP : ∀ j, a_input j = nI (P j)) (h3 : ∀ j, C j ≤ 3) (hb : ∀ t i, i < C t → P (t * 3 + i) < 8 + t) (hp : post (bg_ms C P t)) : wpX_neededSet post (f_revision, f_tasks, f_builds, f_records, f_total, a_contents, a_contentRevision, a_kind, a_constants, a_inputs, a_input, a_taskRevision, a_hasLast, a_lastConstant, a_lastInputs, a_lastValue, a_seenRevision, a_outputs, a_outputRevision, a_newest, a_older, a_hash, a_keptConstant, a_keptInputs, a_keptValue, a_value, a_outcome, a_now) (nI t) := by
  have K : wX_neededSet_6 post f_revision f_tasks f_builds f_records f_total a_contents a_contentRevision a_kind a_constants a_inputs a_input a_taskRevision a_hasLast a_lastConstant a_lastInputs a_lastValue a_seenRevision a_outputs a_outputRevision a_newest a_older a_hash a_keptConstant a_keptInputs a_keptValue a_value a_outcome a_now (t + 2) (bg_bb t) (nI (t + 1) + (-1)) := xa_needL hC hP h3 hb (t + 1) (bg_bb t) (t + 2) (by omega) (by omega) hp
  rw [pk_m1] at K
  exact nm_e ⟨t + 2, K⟩
theorem xa_untL {post : Int32 → Prop} (ht : t < 12) (hC : ∀ j, a_inputs j = nI (C j)) (hP : ∀ j, a_input j = nI (P j)) (h3 : C t ≤ 3) (hb : ∀ i, i < C t → P (t * 3 + i) < 8 + t) (h1 : (∀ i, i < C t → bg_vl a_contentRevision a_outputRevision (P (t * 3 + i)) ≤ a_seenRevision t) → post 1) (h0 : post 0) : ∀ d i n, i + d = C t → d < n → (∀ j, j < i → bg_vl a_contentRevision a_outputRevision (P (t * 3 + j)) ≤ a_seenRevision t) → wX_untouched_28 post (nI t) f_revision f_tasks f_builds f_records f_total a_contents a_contentRevision a_kind a_constants a_inputs a_input a_taskRevision a_hasLast a_lastConstant a_lastInputs a_lastValue a_seenRevision a_outputs a_outputRevision a_newest a_older a_hash a_keptConstant a_keptInputs a_keptValue a_value a_outcome a_now n (nI i) := by
  have hin : vp_in (nI t) 12 := vp_in_nI ht (by omega)
  have hc : a_inputs (nI t).toNatClampNeg = nI (C t) := by rw [nI_clamp (by omega)]; exact hC t
  have hs : a_seenRevision (nI t).toNatClampNeg = a_seenRevision t := by rw [nI_clamp (by omega)]
  intro d
  induction d with
  | zero =>
    intro i n hi hn hj
    obtain ⟨m, rfl⟩ : ∃ m, n = m + 1 := ⟨n - 1, by omega⟩
    have e : i = C t := by omega
    subst e
    exact And.intro hin (pk_le (C t) (C t) (fun _ => h1 hj) (fun h => absurd h (by omega)) hc rfl)
  | succ d ih =>
    intro i n hi hn hj
    obtain ⟨m, rfl⟩ : ∃ m, n = m + 1 := ⟨n - 1, by omega⟩
    have hbi := hb i (by omega)
    have hi36 : vp_in (nI t * 3 + nI i) 36 := by rw [bg_i3]; exact vp_in_nI (by omega) (by omega)
    have hpi : a_input (nI t * 3 + nI i).toNatClampNeg = nI (P (t * 3 + i)) := by rw [bg_i3, nI_clamp (by omega)]; exact hP _
    have J : ∀ z : Int32, z = bg_vl a_contentRevision a_outputRevision (P (t * 3 + i)) → wX_untouched_73 post (wX_untouched_28 post (nI t) f_revision f_tasks f_builds f_records f_total a_contents a_contentRevision a_kind a_constants a_inputs a_input a_taskRevision a_hasLast a_lastConstant a_lastInputs a_lastValue a_seenRevision a_outputs a_outputRevision a_newest a_older a_hash a_keptConstant a_keptInputs a_keptValue a_value a_outcome a_now m) (nI t) (nI i) z f_revision f_tasks f_builds f_records f_total a_contents a_contentRevision a_kind a_constants a_inputs a_input a_taskRevision a_hasLast a_lastConstant a_lastInputs a_lastValue a_seenRevision a_outputs a_outputRevision a_newest a_older a_hash a_keptConstant a_keptInputs a_keptValue a_value a_outcome a_now := by
      intro z hz
      subst hz
      refine And.intro hin (br_c (fun h => ?_) (fun _ => h0))
      rw [hs] at h
      exact nm_r (nI_1 i) (ih (i + 1) m (by omega) (by omega) (lt_s hj h))
    refine And.intro hin (pk_le (C t) i (fun h => absurd h (by omega)) (fun _ => And.intro hi36 (nm_r hpi ?_)) hc rfl)
    refine pk_le 8 (P (t * 3 + i)) (fun h8 => ?_) (fun h8 => ?_) rfl rfl
    · have e8 : nI (P (t * 3 + i)) - 8 = nI (P (t * 3 + i) - 8) := pk_sub (b := 8) h8
      have hi8 : vp_in (nI (P (t * 3 + i)) - 8) 12 := by rw [e8]; exact vp_in_nI (by omega) (by omega)
      exact And.intro hi8 (J _ (by rw [e8, nI_clamp (by omega), bg_vlH h8]))
    · exact And.intro (vp_in_nI h8 (by omega)) (J _ (by rw [nI_clamp (by omega), bg_vlL h8]))
theorem xa_untouched {post : Int32 → Prop} (ht : t < 12) (hC : ∀ j, a_inputs j = nI (C j)) (hP : ∀ j, a_input j = nI (P j)) (h3 : C t ≤ 3) (hb : ∀ i, i < C t → P (t * 3 + i) < 8 + t) (h1 : a_hasLast t ≠ 0 → a_taskRevision t ≤ a_seenRevision t → (∀ i, i < C t → bg_vl a_contentRevision a_outputRevision (P (t * 3 + i)) ≤ a_seenRevision t) → post 1) (h0 : post 0) : wpX_untouched post (f_revision, f_tasks, f_builds, f_records, f_total, a_contents, a_contentRevision, a_kind, a_constants, a_inputs, a_input, a_taskRevision, a_hasLast, a_lastConstant, a_lastInputs, a_lastValue, a_seenRevision, a_outputs, a_outputRevision, a_newest, a_older, a_hash, a_keptConstant, a_keptInputs, a_keptValue, a_value, a_outcome, a_now) (nI t) := by
  have hin : vp_in (nI t) 12 := vp_in_nI ht (by omega)
  have hs : a_seenRevision (nI t).toNatClampNeg = a_seenRevision t := by rw [nI_clamp (by omega)]
  have hl : a_hasLast (nI t).toNatClampNeg = a_hasLast t := by rw [nI_clamp (by omega)]
  have htr : a_taskRevision (nI t).toNatClampNeg = a_taskRevision t := by rw [nI_clamp (by omega)]
  refine And.intro hin (br_c (fun _ => h0) (fun h => And.intro hin (And.intro hin (br_c (fun g => ?_) (fun _ => h0)))))
  rw [hl] at h
  rw [hs, htr] at g
  exact ⟨C t + 1, xa_untL ht hC hP h3 hb (h1 h g) h0 (C t) 0 (C t + 1) (by omega) (by omega) lt_0⟩
end
end
section
/-! X: methods that store -/
section
variable {f_revision f_tasks f_builds f_records f_total : Int32}
variable {a_contents a_contentRevision a_kind a_constants a_inputs a_input a_taskRevision a_hasLast a_lastConstant a_lastInputs a_lastValue a_seenRevision a_outputs a_outputRevision a_newest a_older a_hash a_keptConstant a_keptInputs a_keptValue a_value a_outcome a_now : Nat → Int32}
variable {C P LN KN own : Nat → Nat} {t N : Nat}
theorem xb_keepL {post : SX → Prop} (hN : N < 480) (ht : t < 12) (hC : ∀ j, a_inputs j = nI (C j)) (h3 : C t ≤ 3) (hp : post (f_revision, f_tasks, f_builds, nI (N + 1), f_total, a_contents, a_contentRevision, a_kind, a_constants, a_inputs, a_input, a_taskRevision, a_hasLast, a_lastConstant, a_lastInputs, a_lastValue, a_seenRevision, a_outputs, a_outputRevision, upd a_newest t (nI N), upd a_older N (a_newest t), a_hash, a_keptConstant, a_keptInputs, bg_cp a_keptValue (N * 3) a_value (C t), a_value, a_outcome, a_now)) : ∀ d i n, i + d = C t → d < n → wX_keep_53 post (nI t) (nI N) f_revision f_tasks f_builds (nI N) f_total n (nI i) a_contents a_contentRevision a_kind a_constants a_inputs a_input a_taskRevision a_hasLast a_lastConstant a_lastInputs a_lastValue a_seenRevision a_outputs a_outputRevision a_newest a_older a_hash a_keptConstant a_keptInputs (bg_cp a_keptValue (N * 3) a_value i) a_value a_outcome a_now := by
  have hin : vp_in (nI t) 12 := vp_in_nI ht (by omega)
  have hiN : vp_in (nI N) 480 := vp_in_nI hN (by omega)
  have hc : a_inputs (nI t).toNatClampNeg = nI (C t) := by rw [nI_clamp (by omega)]; exact hC t
  intro d
  induction d with
  | zero =>
    intro i n hi hn
    obtain ⟨m, rfl⟩ : ∃ m, n = m + 1 := ⟨n - 1, by omega⟩
    have e : i = C t := by omega
    subst e
    have e1 : upd a_older (nI N).toNatClampNeg (a_newest (nI t).toNatClampNeg) = upd a_older N (a_newest t) := by rw [nI_clamp (by omega), nI_clamp (by omega)]
    have e2 : upd a_newest (nI t).toNatClampNeg (nI N) = upd a_newest t (nI N) := by rw [nI_clamp (by omega)]
    exact And.intro hin (pk_le (C t) (C t) (fun _ => And.intro hin (And.intro hiN (nm_r e1 (And.intro hin (nm_r e2 (nm_r (nI_1 N) hp)))))) (fun h => absurd h (by omega)) hc rfl)
  | succ d ih =>
    intro i n hi hn
    obtain ⟨m, rfl⟩ : ∃ m, n = m + 1 := ⟨n - 1, by omega⟩
    have hi36 : vp_in (nI N * 3 + nI i) 1440 := by rw [bg_i3]; exact vp_in_nI (by omega) (by omega)
    have hi3 : vp_in (nI i) 3 := vp_in_nI (by omega) (by omega)
    have K := ih (i + 1) m (by omega) (by omega)
    have e : upd (bg_cp a_keptValue (N * 3) a_value i) (nI N * 3 + nI i).toNatClampNeg (a_value (nI i).toNatClampNeg) = bg_cp a_keptValue (N * 3) a_value (i + 1) := by
      rw [bg_i3, nI_clamp (by omega), nI_clamp (by omega)]
      exact bg_cps rfl rfl
    exact And.intro hin (pk_le (C t) i (fun h => absurd h (by omega)) (fun _ => And.intro hi3 (And.intro hi36 (nm_r e (nm_r (nI_1 i) K)))) hc rfl)
theorem xb_keep {post : SX → Prop} {v : Nat → Int32} (hN : N < 480) (ht : t < 12) (hC : ∀ j, a_inputs j = nI (C j)) (h3 : C t ≤ 3) (hv : ∀ i, i < C t → a_value i = v i) (hp : post (f_revision, f_tasks, f_builds, nI (N + 1), f_total, a_contents, a_contentRevision, a_kind, a_constants, a_inputs, a_input, a_taskRevision, a_hasLast, a_lastConstant, a_lastInputs, a_lastValue, a_seenRevision, a_outputs, a_outputRevision, upd a_newest t (nI N), upd a_older N (a_newest t), upd a_hash N (bg_hh (a_constants t) (C t) v), upd a_keptConstant N (a_constants t), upd a_keptInputs N (nI (C t)), bg_cp a_keptValue (N * 3) v (C t), a_value, a_outcome, a_now)) : wpX_keep post (f_revision, f_tasks, f_builds, (nI N), f_total, a_contents, a_contentRevision, a_kind, a_constants, a_inputs, a_input, a_taskRevision, a_hasLast, a_lastConstant, a_lastInputs, a_lastValue, a_seenRevision, a_outputs, a_outputRevision, a_newest, a_older, a_hash, a_keptConstant, a_keptInputs, a_keptValue, a_value, a_outcome, a_now) (nI t) := by
  have hin : vp_in (nI t) 12 := vp_in_nI ht (by omega)
  have hiN : vp_in (nI N) 480 := vp_in_nI hN (by omega)
  have e1 : upd a_hash (nI N).toNatClampNeg (bg_hh (a_constants t) (C t) a_value) = upd a_hash N (bg_hh (a_constants t) (C t) a_value) := by rw [nI_clamp (by omega)]
  have e2 : upd a_keptConstant (nI N).toNatClampNeg (a_constants (nI t).toNatClampNeg) = upd a_keptConstant N (a_constants t) := by rw [nI_clamp (by omega), nI_clamp (by omega)]
  have e3 : upd a_keptInputs (nI N).toNatClampNeg (a_inputs (nI t).toNatClampNeg) = upd a_keptInputs N (nI (C t)) := by rw [nI_clamp (by omega), nI_clamp (by omega), hC t]
  rw [← bg_cpC hv, ← bg_hhC (⟨rfl, rfl, hv⟩ : bg_sm (a_constants t) (a_constants t) (C t) (C t) a_value v)] at hp
  unfold wpX_keep
  refine br_t (nI_lt (b := 480) hN (by omega)) ?_
  refine xa_hashOf ht hC h3 ?_
  refine And.intro hiN (nm_r e1 (And.intro hin (And.intro hiN (nm_r e2 (And.intro hin (And.intro hiN (nm_r e3 ⟨C t + 1, ?_⟩)))))))
  have K : wX_keep_53 post (nI t) (nI N) f_revision f_tasks f_builds (nI N) f_total (C t + 1) (nI 0) a_contents a_contentRevision a_kind a_constants a_inputs a_input a_taskRevision a_hasLast a_lastConstant a_lastInputs a_lastValue a_seenRevision a_outputs a_outputRevision a_newest a_older (upd a_hash N (bg_hh (a_constants t) (C t) a_value)) (upd a_keptConstant N (a_constants t)) (upd a_keptInputs N (nI (C t))) (bg_cp a_keptValue (N * 3) a_value 0) a_value a_outcome a_now := xb_keepL hN ht hC h3 hp (C t) 0 (C t + 1) (by omega) (by omega)
  rw [bg_cp0] at K
  exact K
theorem xb_remL {post : SX → Prop} (ht : t < 12) (hC : ∀ j, a_inputs j = nI (C j)) (h3 : C t ≤ 3) (hp : post (f_revision, f_tasks, f_builds, f_records, f_total, a_contents, a_contentRevision, a_kind, a_constants, a_inputs, a_input, a_taskRevision, a_hasLast, a_lastConstant, a_lastInputs, bg_cp a_lastValue (t * 3) a_value (C t), a_seenRevision, a_outputs, a_outputRevision, a_newest, a_older, a_hash, a_keptConstant, a_keptInputs, a_keptValue, a_value, a_outcome, a_now)) : ∀ d i n, i + d = C t → d < n → wX_remember_33 post (nI t) f_revision f_tasks f_builds f_records f_total n (nI i) a_contents a_contentRevision a_kind a_constants a_inputs a_input a_taskRevision a_hasLast a_lastConstant a_lastInputs (bg_cp a_lastValue (t * 3) a_value i) a_seenRevision a_outputs a_outputRevision a_newest a_older a_hash a_keptConstant a_keptInputs a_keptValue a_value a_outcome a_now := by
  have hin : vp_in (nI t) 12 := vp_in_nI ht (by omega)
  have hc : a_inputs (nI t).toNatClampNeg = nI (C t) := by rw [nI_clamp (by omega)]; exact hC t
  intro d
  induction d with
  | zero =>
    intro i n hi hn
    obtain ⟨m, rfl⟩ : ∃ m, n = m + 1 := ⟨n - 1, by omega⟩
    have e : i = C t := by omega
    subst e
    exact And.intro hin (pk_le (C t) (C t) (fun _ => hp) (fun h => absurd h (by omega)) hc rfl)
  | succ d ih =>
    intro i n hi hn
    obtain ⟨m, rfl⟩ : ∃ m, n = m + 1 := ⟨n - 1, by omega⟩
    have hi36 : vp_in (nI t * 3 + nI i) 36 := by rw [bg_i3]; exact vp_in_nI (by omega) (by omega)
    have hi3 : vp_in (nI i) 3 := vp_in_nI (by omega) (by omega)
    have K := ih (i + 1) m (by omega) (by omega)
    have e : upd (bg_cp a_lastValue (t * 3) a_value i) (nI t * 3 + nI i).toNatClampNeg (a_value (nI i).toNatClampNeg) = bg_cp a_lastValue (t * 3) a_value (i + 1) := by
      rw [bg_i3, nI_clamp (by omega), nI_clamp (by omega)]
      exact bg_cps rfl rfl
    exact And.intro hin (pk_le (C t) i (fun h => absurd h (by omega)) (fun _ => And.intro hi3 (And.intro hi36 (nm_r e (nm_r (nI_1 i) K)))) hc rfl)
theorem xb_remember {post : SX → Prop} (ht : t < 12) (hC : ∀ j, a_inputs j = nI (C j)) (h3 : C t ≤ 3) (hp : post (f_revision, f_tasks, f_builds, f_records, f_total, a_contents, a_contentRevision, a_kind, a_constants, a_inputs, a_input, a_taskRevision, upd a_hasLast t 1, upd a_lastConstant t (a_constants t), upd a_lastInputs t (nI (C t)), bg_cp a_lastValue (t * 3) a_value (C t), a_seenRevision, a_outputs, a_outputRevision, a_newest, a_older, a_hash, a_keptConstant, a_keptInputs, a_keptValue, a_value, a_outcome, a_now)) : wpX_remember post (f_revision, f_tasks, f_builds, f_records, f_total, a_contents, a_contentRevision, a_kind, a_constants, a_inputs, a_input, a_taskRevision, a_hasLast, a_lastConstant, a_lastInputs, a_lastValue, a_seenRevision, a_outputs, a_outputRevision, a_newest, a_older, a_hash, a_keptConstant, a_keptInputs, a_keptValue, a_value, a_outcome, a_now) (nI t) := by
  have hin : vp_in (nI t) 12 := vp_in_nI ht (by omega)
  have e1 : upd a_hasLast (nI t).toNatClampNeg (vp_nar .boolean 1) = upd a_hasLast t 1 := by rw [nI_clamp (by omega), bg_vb1]
  have e2 : upd a_lastConstant (nI t).toNatClampNeg (a_constants (nI t).toNatClampNeg) = upd a_lastConstant t (a_constants t) := by rw [nI_clamp (by omega)]
  have e3 : upd a_lastInputs (nI t).toNatClampNeg (a_inputs (nI t).toNatClampNeg) = upd a_lastInputs t (nI (C t)) := by rw [nI_clamp (by omega), hC t]
  refine And.intro hin (nm_r e1 (And.intro hin (And.intro hin (nm_r e2 (And.intro hin (And.intro hin (nm_r e3 ⟨C t + 1, ?_⟩)))))))
  have K : wX_remember_33 post (nI t) f_revision f_tasks f_builds f_records f_total (C t + 1) (nI 0) a_contents a_contentRevision a_kind a_constants a_inputs a_input a_taskRevision (upd a_hasLast t 1) (upd a_lastConstant t (a_constants t)) (upd a_lastInputs t (nI (C t))) (bg_cp a_lastValue (t * 3) a_value 0) a_seenRevision a_outputs a_outputRevision a_newest a_older a_hash a_keptConstant a_keptInputs a_keptValue a_value a_outcome a_now := xb_remL ht hC h3 hp (C t) 0 (C t + 1) (by omega) (by omega)
  rw [bg_cp0] at K
  exact K
/-- behind the store: remember, result, outputs; x3 says whether it was stored -/
theorem xb_h53 {post : Int32 → SX → Prop} {x3 y r : Int32} {v : Nat → Int32} (ht : t < 12) (hC : ∀ j, a_inputs j = nI (C j)) (h3 : C t ≤ 3) (hx : (x3 = 0 ∧ y = 3) ∨ (x3 = 1 ∧ y = 2)) (hv : ∀ i, i < C t → a_value i = v i) (hr : r = bg_rs (a_kind t) (a_constants t) (C t) v)
    (hp : ∀ orv, (r = a_outputs t → orv = a_outputRevision) → (r ≠ a_outputs t → orv = upd a_outputRevision t f_revision) → post y (f_revision, f_tasks, f_builds, f_records, f_total, a_contents, a_contentRevision, a_kind, a_constants, a_inputs, a_input, a_taskRevision, upd a_hasLast t 1, upd a_lastConstant t (a_constants t), upd a_lastInputs t (nI (C t)), bg_cp a_lastValue (t * 3) v (C t), a_seenRevision, upd a_outputs t r, orv, a_newest, a_older, a_hash, a_keptConstant, a_keptInputs, a_keptValue, a_value, a_outcome, a_now)) : wX_handle_53 post (nI t) x3 f_revision f_tasks f_builds f_records f_total a_contents a_contentRevision a_kind a_constants a_inputs a_input a_taskRevision a_hasLast a_lastConstant a_lastInputs a_lastValue a_seenRevision a_outputs a_outputRevision a_newest a_older a_hash a_keptConstant a_keptInputs a_keptValue a_value a_outcome a_now := by
  have hin : vp_in (nI t) 12 := vp_in_nI ht (by omega)
  have hr' : bg_rs (a_kind t) (a_constants t) (C t) a_value = r := by rw [hr]; exact bg_rsC hv
  have eo : a_outputs (nI t).toNatClampNeg = a_outputs t := by rw [nI_clamp (by omega)]
  have e1 : upd a_outputs (nI t).toNatClampNeg r = upd a_outputs t r := by rw [nI_clamp (by omega)]
  have e2 : upd a_outputRevision (nI t).toNatClampNeg f_revision = upd a_outputRevision t f_revision := by rw [nI_clamp (by omega)]
  have J : ∀ orv, (r = a_outputs t → orv = a_outputRevision) → (r ≠ a_outputs t → orv = upd a_outputRevision t f_revision) → wX_handle_86 post (nI t) x3 r f_revision f_tasks f_builds f_records f_total a_contents a_contentRevision a_kind a_constants a_inputs a_input a_taskRevision (upd a_hasLast t 1) (upd a_lastConstant t (a_constants t)) (upd a_lastInputs t (nI (C t))) (bg_cp a_lastValue (t * 3) a_value (C t)) a_seenRevision a_outputs orv a_newest a_older a_hash a_keptConstant a_keptInputs a_keptValue a_value a_outcome a_now := by
    intro orv o1 o2
    have hp' := hp orv o1 o2
    rw [← bg_cpC hv] at hp'
    refine And.intro hin (nm_r e1 ?_)
    rcases hx with ⟨rfl, rfl⟩ | ⟨rfl, rfl⟩
    · exact br_t rfl hp'
    · exact br_f (by decide) hp'
  unfold wX_handle_53
  refine xb_remember ht hC h3 ?_
  refine xa_result ht hC h3 ?_
  rw [hr']
  refine And.intro hin (br_c (fun h => ?_) (fun h => And.intro hin (nm_r e2 ?_)))
  · rw [eo] at h
    exact J _ (fun _ => rfl) (fun z => absurd h z)
  · rw [eo] at h
    exact J _ (fun z => absurd z h) (fun _ => rfl)
theorem xb_h22 {post : Int32 → SX → Prop} {v : Nat → Int32} (hN : N < 480) (ht : t < 12) (hC : ∀ j, a_inputs j = nI (C j)) (h3 : C t ≤ 3) (hK : ∀ j, a_keptInputs j = nI (KN j)) (hK3 : ∀ j, KN j ≤ 3) (hW : a_newest t = bg_pv own t N) (hO : ∀ r, r < N → a_older r = bg_pv own (own r) r) (hH : ∀ r, r < N → a_hash r = bg_hh (a_keptConstant r) (KN r) (fun i => a_keptValue (r * 3 + i))) (hv : ∀ i, i < C t → a_value i = v i)
    (p2 : bg_ins N own a_keptConstant KN a_keptValue (a_constants t) (C t) t v → ∀ orv, (bg_rs (a_kind t) (a_constants t) (C t) v = a_outputs t → orv = a_outputRevision) → (bg_rs (a_kind t) (a_constants t) (C t) v ≠ a_outputs t → orv = upd a_outputRevision t f_revision) → post 2 (f_revision, f_tasks, f_builds, (nI N), f_total, a_contents, a_contentRevision, a_kind, a_constants, a_inputs, a_input, a_taskRevision, upd a_hasLast t 1, upd a_lastConstant t (a_constants t), upd a_lastInputs t (nI (C t)), bg_cp a_lastValue (t * 3) v (C t), upd a_seenRevision t f_revision, upd a_outputs t (bg_rs (a_kind t) (a_constants t) (C t) v), orv, a_newest, a_older, a_hash, a_keptConstant, a_keptInputs, a_keptValue, a_value, a_outcome, a_now))
    (p3 : ¬ bg_ins N own a_keptConstant KN a_keptValue (a_constants t) (C t) t v → ∀ orv, (bg_rs (a_kind t) (a_constants t) (C t) v = a_outputs t → orv = a_outputRevision) → (bg_rs (a_kind t) (a_constants t) (C t) v ≠ a_outputs t → orv = upd a_outputRevision t f_revision) → post 3 (f_revision, f_tasks, f_builds, nI (N + 1), f_total, a_contents, a_contentRevision, a_kind, a_constants, a_inputs, a_input, a_taskRevision, upd a_hasLast t 1, upd a_lastConstant t (a_constants t), upd a_lastInputs t (nI (C t)), bg_cp a_lastValue (t * 3) v (C t), upd a_seenRevision t f_revision, upd a_outputs t (bg_rs (a_kind t) (a_constants t) (C t) v), orv, upd a_newest t (nI N), upd a_older N (a_newest t), upd a_hash N (bg_hh (a_constants t) (C t) v), upd a_keptConstant N (a_constants t), upd a_keptInputs N (nI (C t)), bg_cp a_keptValue (N * 3) v (C t), a_value, a_outcome, a_now)) : wX_handle_22 post (nI t) 0 f_revision f_tasks f_builds (nI N) f_total a_contents a_contentRevision a_kind a_constants a_inputs a_input a_taskRevision a_hasLast a_lastConstant a_lastInputs a_lastValue a_seenRevision a_outputs a_outputRevision a_newest a_older a_hash a_keptConstant a_keptInputs a_keptValue a_value a_outcome a_now := by
  have hin : vp_in (nI t) 12 := vp_in_nI ht (by omega)
  have e1 : upd a_seenRevision (nI t).toNatClampNeg f_revision = upd a_seenRevision t f_revision := by rw [nI_clamp (by omega)]
  refine And.intro hin (nm_r e1 (br_t rfl ?_))
  refine xa_inStore (Nat.le_of_lt hN) ht hC h3 hK hK3 hW hO hH (fun z => ?_) (fun z => ?_)
  · refine br_f (by decide) ?_
    exact xb_h53 ht hC h3 (Or.inr ⟨rfl, rfl⟩) hv rfl (p2 (bg_insC hv z))
  · refine br_t rfl ?_
    refine xb_keep hN ht hC h3 hv ?_
    exact xb_h53 ht hC h3 (Or.inl ⟨rfl, rfl⟩) hv rfl (p3 (fun y => z (bg_insC (fun i hi => (hv i hi).symm) y)))
theorem xb_handle {post : Int32 → SX → Prop} {v : Nat → Int32} (hN : N < 480) (ht : t < 12) (hC : ∀ j, a_inputs j = nI (C j)) (hP : ∀ j, a_input j = nI (P j)) (h3 : C t ≤ 3) (hb : ∀ i, i < C t → P (t * 3 + i) < 8 + t) (hL : ∀ j, a_lastInputs j = nI (LN j)) (hL3 : LN t ≤ 3) (hK : ∀ j, a_keptInputs j = nI (KN j)) (hK3 : ∀ j, KN j ≤ 3) (hW : a_newest t = bg_pv own t N) (hO : ∀ r, r < N → a_older r = bg_pv own (own r) r) (hH : ∀ r, r < N → a_hash r = bg_hh (a_keptConstant r) (KN r) (fun i => a_keptValue (r * 3 + i))) (hv : ∀ i, i < C t → bg_vl a_contents a_outputs (P (t * 3 + i)) = v i)
    (hU : a_hasLast t ≠ 0 → a_taskRevision t ≤ a_seenRevision t → (∀ i, i < C t → bg_vl a_contentRevision a_outputRevision (P (t * 3 + i)) ≤ a_seenRevision t) → bg_lst (a_hasLast t) (a_lastConstant t) (LN t) (fun i => a_lastValue (t * 3 + i)) (a_constants t) (C t) v)
    (p1 : bg_lst (a_hasLast t) (a_lastConstant t) (LN t) (fun i => a_lastValue (t * 3 + i)) (a_constants t) (C t) v → ∀ val, post 1 (f_revision, f_tasks, f_builds, (nI N), f_total, a_contents, a_contentRevision, a_kind, a_constants, a_inputs, a_input, a_taskRevision, a_hasLast, a_lastConstant, a_lastInputs, a_lastValue, upd a_seenRevision t f_revision, a_outputs, a_outputRevision, a_newest, a_older, a_hash, a_keptConstant, a_keptInputs, a_keptValue, val, a_outcome, a_now))
    (p2 : ¬ bg_lst (a_hasLast t) (a_lastConstant t) (LN t) (fun i => a_lastValue (t * 3 + i)) (a_constants t) (C t) v → bg_ins N own a_keptConstant KN a_keptValue (a_constants t) (C t) t v → ∀ val orv, (bg_rs (a_kind t) (a_constants t) (C t) v = a_outputs t → orv = a_outputRevision) → (bg_rs (a_kind t) (a_constants t) (C t) v ≠ a_outputs t → orv = upd a_outputRevision t f_revision) → post 2 (f_revision, f_tasks, f_builds, (nI N), f_total, a_contents, a_contentRevision, a_kind, a_constants, a_inputs, a_input, a_taskRevision, upd a_hasLast t 1, upd a_lastConstant t (a_constants t), upd a_lastInputs t (nI (C t)), bg_cp a_lastValue (t * 3) v (C t), upd a_seenRevision t f_revision, upd a_outputs t (bg_rs (a_kind t) (a_constants t) (C t) v), orv, a_newest, a_older, a_hash, a_keptConstant, a_keptInputs, a_keptValue, val, a_outcome, a_now))
    (p3 : ¬ bg_lst (a_hasLast t) (a_lastConstant t) (LN t) (fun i => a_lastValue (t * 3 + i)) (a_constants t) (C t) v → ¬ bg_ins N own a_keptConstant KN a_keptValue (a_constants t) (C t) t v → ∀ val orv, (bg_rs (a_kind t) (a_constants t) (C t) v = a_outputs t → orv = a_outputRevision) → (bg_rs (a_kind t) (a_constants t) (C t) v ≠ a_outputs t → orv = upd a_outputRevision t f_revision) → post 3 (f_revision, f_tasks, f_builds, nI (N + 1), f_total, a_contents, a_contentRevision, a_kind, a_constants, a_inputs, a_input, a_taskRevision, upd a_hasLast t 1, upd a_lastConstant t (a_constants t), upd a_lastInputs t (nI (C t)), bg_cp a_lastValue (t * 3) v (C t), upd a_seenRevision t f_revision, upd a_outputs t (bg_rs (a_kind t) (a_constants t) (C t) v), orv, upd a_newest t (nI N), upd a_older N (a_newest t), upd a_hash N (bg_hh (a_constants t) (C t) v), upd a_keptConstant N (a_constants t), upd a_keptInputs N (nI (C t)), bg_cp a_keptValue (N * 3) v (C t), val, a_outcome, a_now)) : wpX_handle post (f_revision, f_tasks, f_builds, (nI N), f_total, a_contents, a_contentRevision, a_kind, a_constants, a_inputs, a_input, a_taskRevision, a_hasLast, a_lastConstant, a_lastInputs, a_lastValue, a_seenRevision, a_outputs, a_outputRevision, a_newest, a_older, a_hash, a_keptConstant, a_keptInputs, a_keptValue, a_value, a_outcome, a_now) (nI t) := by
  have hin : vp_in (nI t) 12 := vp_in_nI ht (by omega)
  have e1 : upd a_seenRevision (nI t).toNatClampNeg f_revision = upd a_seenRevision t f_revision := by rw [nI_clamp (by omega)]
  unfold wpX_handle
  refine xa_untouched ht hC hP h3 hb (fun u1 u2 u3 => ?_) ?_
  · exact br_f (by decide) (And.intro hin (nm_r e1 (br_f (by decide) (p1 (hU u1 u2 u3) _))))
  · refine br_t rfl ?_
    refine xa_loadRecord ht hC hP h3 hb (fun _ => rfl) (fun z => absurd rfl z) ?_
    have hv' : ∀ i, i < C t → bg_cp a_value 0 (fun i => bg_vl a_contents a_outputs (P (t * 3 + i))) (C t) i = v i := fun i hi => (bg_cpz hi).trans (hv i hi)
    refine xa_isLast ht hC h3 hL hL3 (fun z1 z2 => ?_) (fun z => ?_)
    · exact And.intro hin (nm_r e1 (br_f (by decide) (p1 ⟨z1, bg_smC hv' z2⟩ _)))
    · have hn : ¬ bg_lst (a_hasLast t) (a_lastConstant t) (LN t) (fun i => a_lastValue (t * 3 + i)) (a_constants t) (C t) v := fun y => z ⟨y.1, bg_smC (fun i hi => (hv' i hi).symm) y.2⟩
      exact xb_h22 hN ht hC h3 hK hK3 hW hO hH hv' (fun y => p2 hn y _) (fun y => p3 hn y _)
theorem xb_nowL {post : SX → Prop} {T : Nat} (hT : T ≤ 12) (hC : ∀ j, a_inputs j = nI (C j)) (hP : ∀ j, a_input j = nI (P j)) (h3 : ∀ j, C j ≤ 3) (hb : ∀ t i, i < C t → P (t * 3 + i) < 8 + t) (hp : ∀ val, post (f_revision, (nI T), f_builds, f_records, f_total, a_contents, a_contentRevision, a_kind, a_constants, a_inputs, a_input, a_taskRevision, a_hasLast, a_lastConstant, a_lastInputs, a_lastValue, a_seenRevision, a_outputs, a_outputRevision, a_newest, a_older, a_hash, a_keptConstant, a_keptInputs, a_keptValue, val, a_outcome, bg_nw (bg_R a_kind a_constants C P a_contents) a_now T)) : ∀ d t n val, t + d = T → d < n → wX_workOutNow_2 post n (nI t) f_revision (nI T) f_builds f_records f_total a_contents a_contentRevision a_kind a_constants a_inputs a_input a_taskRevision a_hasLast a_lastConstant a_lastInputs a_lastValue a_seenRevision a_outputs a_outputRevision a_newest a_older a_hash a_keptConstant a_keptInputs a_keptValue val a_outcome (bg_nw (bg_R a_kind a_constants C P a_contents) a_now t) := by
  intro d
  induction d with
  | zero =>
    intro t n val ht hn
    obtain ⟨m, rfl⟩ : ∃ m, n = m + 1 := ⟨n - 1, by omega⟩
    have e : t = T := by omega
    subst e
    exact br_t (nI_le (Nat.le_refl t) (by omega)) (hp val)
  | succ d ih =>
    intro t n val ht hn
    obtain ⟨m, rfl⟩ : ∃ m, n = m + 1 := ⟨n - 1, by omega⟩
    have hin : vp_in (nI t) 12 := vp_in_nI (by omega) (by omega)
    refine br_f (nI_ge (by omega) (by omega)) ?_
    refine xa_loadRecord (o := bg_nw (bg_R a_kind a_constants C P a_contents) a_now t) (by omega) hC hP (h3 t) (hb t) (fun z => absurd z (by decide)) (fun _ => rfl) ?_
    refine xa_result (by omega) hC (h3 t) ?_
    refine And.intro hin (nm_r (e' := bg_nw (bg_R a_kind a_constants C P a_contents) a_now (t + 1)) ?_ (nm_r (nI_1 t) (ih (t + 1) m _ (by omega) (by omega))))
    rw [nI_clamp (by omega)]
    show _ = upd (bg_nw (bg_R a_kind a_constants C P a_contents) a_now t) t (bg_R a_kind a_constants C P a_contents (bg_nw (bg_R a_kind a_constants C P a_contents) a_now t) t)
    congr 1
    exact bg_rsC (fun i hi => bg_cpz hi)
theorem xb_workOutNow {post : SX → Prop} {T : Nat} (hT : T ≤ 12) (hC : ∀ j, a_inputs j = nI (C j)) (hP : ∀ j, a_input j = nI (P j)) (h3 : ∀ j, C j ≤ 3) (hb : ∀ t i, i < C t → P (t * 3 + i) < 8 + t) (hp : ∀ val nw, bg_FX (bg_R a_kind a_constants C P a_contents) T nw → post (f_revision, (nI T), f_builds, f_records, f_total, a_contents, a_contentRevision, a_kind, a_constants, a_inputs, a_input, a_taskRevision, a_hasLast, a_lastConstant, a_lastInputs, a_lastValue, a_seenRevision, a_outputs, a_outputRevision, a_newest, a_older, a_hash, a_keptConstant, a_keptInputs, a_keptValue, val, a_outcome, nw)) : wpX_workOutNow post (f_revision, (nI T), f_builds, f_records, f_total, a_contents, a_contentRevision, a_kind, a_constants, a_inputs, a_input, a_taskRevision, a_hasLast, a_lastConstant, a_lastInputs, a_lastValue, a_seenRevision, a_outputs, a_outputRevision, a_newest, a_older, a_hash, a_keptConstant, a_keptInputs, a_keptValue, a_value, a_outcome, a_now) := by
  have hl : bg_Lc (bg_R a_kind a_constants C P a_contents) T := fun o o' t _ h => bg_RC (hb t) h
  exact ⟨T + 1, xb_nowL hT hC hP h3 hb (fun val => hp val _ (bg_nwF hl)) T 0 (T + 1) _ (by omega) (by omega)⟩
end
end
section
/-! Y -/
section
variable {f_tasks f_builds f_done : Int32}
variable {a_contents a_kinds a_constants a_counts a_inputs a_outputs a_states a_hasLast a_last a_stored a_store a_now : Nat → Int32}
variable {C P S : Nat → Nat} {t : Nat}
theorem ya_value {post : Int32 → Prop} {i : Nat} (ht : t < 12) (hC : ∀ j, a_counts j = nI (C j)) (hP : ∀ j, a_inputs j = nI (P j)) (h3 : C t ≤ 3) (hb : ∀ i, i < C t → P (t * 3 + i) < 8 + t) (hi : i < 3) (hp : post (if i < C t then bg_vl a_contents a_now (P (t * 3 + i)) else 0)) : wpY_value post (f_tasks, f_builds, f_done, a_contents, a_kinds, a_constants, a_counts, a_inputs, a_outputs, a_states, a_hasLast, a_last, a_stored, a_store, a_now) (nI t) (nI i) := by
  have hin : vp_in (nI t) 12 := vp_in_nI ht (by omega)
  have hc : a_counts (nI t).toNatClampNeg = nI (C t) := by rw [nI_clamp (by omega)]; exact hC t
  have hi36 : vp_in (nI t * 3 + nI i) 36 := by rw [bg_i3]; exact vp_in_nI (by omega) (by omega)
  have hpi : a_inputs (nI t * 3 + nI i).toNatClampNeg = nI (P (t * 3 + i)) := by rw [bg_i3, nI_clamp (by omega)]; exact hP _
  refine And.intro hin (pk_lt i (C t) (fun h => And.intro hi36 (nm_r hpi ?_)) (fun h => ?_) rfl hc)
  · rw [if_pos h] at hp
    have hbi := hb i h
    refine pk_le 8 (P (t * 3 + i)) (fun h8 => ?_) (fun h8 => ?_) rfl rfl
    · have e8 : nI (P (t * 3 + i)) - 8 = nI (P (t * 3 + i) - 8) := pk_sub (b := 8) h8
      have hi8 : vp_in (nI (P (t * 3 + i)) - 8) 12 := by rw [e8]; exact vp_in_nI (by omega) (by omega)
      rw [bg_vlH h8] at hp
      refine And.intro hi8 ?_
      rw [e8, nI_clamp (by omega)]
      exact hp
    · rw [bg_vlL h8] at hp
      refine And.intro (vp_in_nI h8 (by omega)) ?_
      rw [nI_clamp (by omega)]
      exact hp
  · rw [if_neg (by omega)] at hp
    exact hp
theorem ya_part {post : Int32 → Prop} {i : Nat} (ht : t < 12) (hC : ∀ j, a_counts j = nI (C j)) (hP : ∀ j, a_inputs j = nI (P j)) (h3 : C t ≤ 3) (hb : ∀ i, i < C t → P (t * 3 + i) < 8 + t) (hi : i < 5) (hp : post ((bg_rc (a_constants t) (C t) (fun i => bg_vl a_contents a_now (P (t * 3 + i)))) i)) : wpY_part post (f_tasks, f_builds, f_done, a_contents, a_kinds, a_constants, a_counts, a_inputs, a_outputs, a_states, a_hasLast, a_last, a_stored, a_store, a_now) (nI t) (nI i) := by
  have hin : vp_in (nI t) 12 := vp_in_nI ht (by omega)
  have hc : a_counts (nI t).toNatClampNeg = nI (C t) := by rw [nI_clamp (by omega)]; exact hC t
  have hk : a_constants (nI t).toNatClampNeg = a_constants t := by rw [nI_clamp (by omega)]
  unfold wpY_part
  refine pk_eq i 0 (fun h => And.intro hin ?_) (fun h => pk_eq i 1 (fun g => And.intro hin ?_) (fun g => ?_) rfl rfl) rfl rfl
  · subst h
    rw [bg_rc0] at hp
    rw [hk]
    exact hp
  · subst g
    rw [bg_rc1] at hp
    rw [hc]
    exact hp
  · obtain ⟨m, rfl⟩ : ∃ m, i = m + 2 := ⟨i - 2, by omega⟩
    have e : nI (m + 2) - 2 = nI m := pk_sub (a := m + 2) (b := 2) (by omega)
    rw [e]
    rw [bg_rc2] at hp
    exact ya_value ht hC hP h3 hb (by omega) hp
theorem ya_lastL {post : Int32 → Prop} (ht : t < 12) (hC : ∀ j, a_counts j = nI (C j)) (hP : ∀ j, a_inputs j = nI (P j)) (h3 : C t ≤ 3) (hb : ∀ i, i < C t → P (t * 3 + i) < 8 + t) (h1 : bg_E5 (fun i => a_last (t * 5 + i)) (bg_rc (a_constants t) (C t) (fun i => bg_vl a_contents a_now (P (t * 3 + i)))) → post 1) (h0 : ¬ bg_E5 (fun i => a_last (t * 5 + i)) (bg_rc (a_constants t) (C t) (fun i => bg_vl a_contents a_now (P (t * 3 + i)))) → post 0) : ∀ d i n, i + d = 5 → d < n → (∀ j, j < i → a_last (t * 5 + j) = (bg_rc (a_constants t) (C t) (fun i => bg_vl a_contents a_now (P (t * 3 + i)))) j) → wY_isLast_13 post (nI t) f_tasks f_builds f_done a_contents a_kinds a_constants a_counts a_inputs a_outputs a_states a_hasLast a_last a_stored a_store a_now n (nI i) := by
  intro d
  induction d with
  | zero =>
    intro i n hi hn hj
    obtain ⟨m, rfl⟩ : ∃ m, n = m + 1 := ⟨n - 1, by omega⟩
    have e : i = 5 := by omega
    subst e
    exact br_t (by decide) (h1 hj)
  | succ d ih =>
    intro i n hi hn hj
    obtain ⟨m, rfl⟩ : ∃ m, n = m + 1 := ⟨n - 1, by omega⟩
    have hi60 : vp_in (nI t * 5 + nI i) 60 := by rw [bg_i5]; exact vp_in_nI (by omega) (by omega)
    have el : a_last (nI t * 5 + nI i).toNatClampNeg = a_last (t * 5 + i) := by rw [bg_i5, nI_clamp (by omega)]
    refine br_f (nI_ge (b := 5) (by omega) (by omega)) (And.intro hi60 ?_)
    refine ya_part ht hC hP h3 hb (by omega) ?_
    refine br_c (fun h => ?_) (fun h => ?_)
    · rw [el] at h
      exact nm_r (nI_1 i) (ih (i + 1) m (by omega) (by omega) (lt_s hj h))
    · rw [el] at h
      exact h0 (fun z => h (z i (by omega)))
theorem ya_isLast {post : Int32 → Prop} (ht : t < 12) (hC : ∀ j, a_counts j = nI (C j)) (hP : ∀ j, a_inputs j = nI (P j)) (h3 : C t ≤ 3) (hb : ∀ i, i < C t → P (t * 3 + i) < 8 + t) (h1 : a_hasLast t ≠ 0 → bg_E5 (fun i => a_last (t * 5 + i)) (bg_rc (a_constants t) (C t) (fun i => bg_vl a_contents a_now (P (t * 3 + i)))) → post 1) (h0 : ¬ (a_hasLast t ≠ 0 ∧ bg_E5 (fun i => a_last (t * 5 + i)) (bg_rc (a_constants t) (C t) (fun i => bg_vl a_contents a_now (P (t * 3 + i))))) → post 0) : wpY_isLast post (f_tasks, f_builds, f_done, a_contents, a_kinds, a_constants, a_counts, a_inputs, a_outputs, a_states, a_hasLast, a_last, a_stored, a_store, a_now) (nI t) := by
  have hin : vp_in (nI t) 12 := vp_in_nI ht (by omega)
  have e1 : a_hasLast (nI t).toNatClampNeg = a_hasLast t := by rw [nI_clamp (by omega)]
  refine And.intro hin (br_c (fun h => ?_) (fun h => ?_))
  · rw [e1] at h
    exact h0 (fun z => z.1 h)
  · rw [e1] at h
    exact ⟨6, ya_lastL ht hC hP h3 hb (h1 h) (fun z => h0 (fun y => z y.2)) 5 0 6 (by omega) (by omega) lt_0⟩
theorem ya_recL {post : Int32 → Prop} {r : Nat} (hr : r < 40) (ht : t < 12) (hC : ∀ j, a_counts j = nI (C j)) (hP : ∀ j, a_inputs j = nI (P j)) (h3 : C t ≤ 3) (hb : ∀ i, i < C t → P (t * 3 + i) < 8 + t) (h1 : bg_E5 (fun i => a_store ((t * 40 + r) * 5 + i)) (bg_rc (a_constants t) (C t) (fun i => bg_vl a_contents a_now (P (t * 3 + i)))) → post 1) (h0 : ¬ bg_E5 (fun i => a_store ((t * 40 + r) * 5 + i)) (bg_rc (a_constants t) (C t) (fun i => bg_vl a_contents a_now (P (t * 3 + i)))) → post 0) : ∀ d i n, i + d = 5 → d < n → (∀ j, j < i → a_store ((t * 40 + r) * 5 + j) = (bg_rc (a_constants t) (C t) (fun i => bg_vl a_contents a_now (P (t * 3 + i)))) j) → wY_isRecord_2 post (nI t) (nI r) f_tasks f_builds f_done a_contents a_kinds a_constants a_counts a_inputs a_outputs a_states a_hasLast a_last a_stored a_store a_now n (nI i) := by
  intro d
  induction d with
  | zero =>
    intro i n hi hn hj
    obtain ⟨m, rfl⟩ : ∃ m, n = m + 1 := ⟨n - 1, by omega⟩
    have e : i = 5 := by omega
    subst e
    exact br_t (by decide) (h1 hj)
  | succ d ih =>
    intro i n hi hn hj
    obtain ⟨m, rfl⟩ : ∃ m, n = m + 1 := ⟨n - 1, by omega⟩
    have hi60 : vp_in ((nI t * 40 + nI r) * 5 + nI i) 2400 := by rw [bg_i40]; exact vp_in_nI (by omega) (by omega)
    have el : a_store ((nI t * 40 + nI r) * 5 + nI i).toNatClampNeg = a_store ((t * 40 + r) * 5 + i) := by rw [bg_i40, nI_clamp (by omega)]
    refine br_f (nI_ge (b := 5) (by omega) (by omega)) (And.intro hi60 ?_)
    refine ya_part ht hC hP h3 hb (by omega) ?_
    refine br_c (fun h => ?_) (fun h => ?_)
    · rw [el] at h
      exact nm_r (nI_1 i) (ih (i + 1) m (by omega) (by omega) (lt_s hj h))
    · rw [el] at h
      exact h0 (fun z => h (z i (by omega)))
theorem ya_isRecord {post : Int32 → Prop} {r : Nat} (hr : r < 40) (ht : t < 12) (hC : ∀ j, a_counts j = nI (C j)) (hP : ∀ j, a_inputs j = nI (P j)) (h3 : C t ≤ 3) (hb : ∀ i, i < C t → P (t * 3 + i) < 8 + t) (h1 : bg_E5 (fun i => a_store ((t * 40 + r) * 5 + i)) (bg_rc (a_constants t) (C t) (fun i => bg_vl a_contents a_now (P (t * 3 + i)))) → post 1) (h0 : ¬ bg_E5 (fun i => a_store ((t * 40 + r) * 5 + i)) (bg_rc (a_constants t) (C t) (fun i => bg_vl a_contents a_now (P (t * 3 + i)))) → post 0) : wpY_isRecord post (f_tasks, f_builds, f_done, a_contents, a_kinds, a_constants, a_counts, a_inputs, a_outputs, a_states, a_hasLast, a_last, a_stored, a_store, a_now) (nI t) (nI r) :=
  ⟨6, ya_recL hr ht hC hP h3 hb h1 h0 5 0 6 (by omega) (by omega) lt_0⟩
/-- Y's store holds the record R of task t -/
def bg_sto (s : Nat) (store : Nat → Int32) (t : Nat) (R : Nat → Int32) : Prop := ∃ r, r < s ∧ bg_E5 (fun i => store ((t * 40 + r) * 5 + i)) R
theorem ya_stoL {post : Int32 → Prop} (ht : t < 12) (hC : ∀ j, a_counts j = nI (C j)) (hP : ∀ j, a_inputs j = nI (P j)) (h3 : C t ≤ 3) (hb : ∀ i, i < C t → P (t * 3 + i) < 8 + t) (hS : a_stored t = nI (S t)) (hS40 : S t ≤ 40) (h1 : bg_sto (S t) a_store t (bg_rc (a_constants t) (C t) (fun i => bg_vl a_contents a_now (P (t * 3 + i)))) → post 1) (h0 : ¬ bg_sto (S t) a_store t (bg_rc (a_constants t) (C t) (fun i => bg_vl a_contents a_now (P (t * 3 + i)))) → post 0) : ∀ d r n, r + d = S t → d < n → (∀ q, q < r → ¬ bg_E5 (fun i => a_store ((t * 40 + q) * 5 + i)) (bg_rc (a_constants t) (C t) (fun i => bg_vl a_contents a_now (P (t * 3 + i))))) → wY_isStored_2 post (nI t) f_tasks f_builds f_done a_contents a_kinds a_constants a_counts a_inputs a_outputs a_states a_hasLast a_last a_stored a_store a_now n (nI r) := by
  have hin : vp_in (nI t) 12 := vp_in_nI ht (by omega)
  have hs : a_stored (nI t).toNatClampNeg = nI (S t) := by rw [nI_clamp (by omega)]; exact hS
  intro d
  induction d with
  | zero =>
    intro r n hr hn hq
    obtain ⟨m, rfl⟩ : ∃ m, n = m + 1 := ⟨n - 1, by omega⟩
    have e : r = S t := by omega
    subst e
    refine And.intro hin (pk_le (S t) (S t) (fun _ => h0 (fun z => ?_)) (fun h => absurd h (by omega)) hs rfl)
    obtain ⟨q, q1, q2⟩ := z
    exact hq q q1 q2
  | succ d ih =>
    intro r n hr hn hq
    obtain ⟨m, rfl⟩ : ∃ m, n = m + 1 := ⟨n - 1, by omega⟩
    refine And.intro hin (pk_le (S t) r (fun h => absurd h (by omega)) (fun _ => ?_) hs rfl)
    refine ya_isRecord (by omega) ht hC hP h3 hb (fun z => ?_) (fun z => ?_)
    · exact br_f (by decide) (h1 ⟨r, by omega, z⟩)
    · exact br_t rfl (nm_r (nI_1 r) (ih (r + 1) m (by omega) (by omega) (lt_s hq z)))
theorem ya_isStored {post : Int32 → Prop} (ht : t < 12) (hC : ∀ j, a_counts j = nI (C j)) (hP : ∀ j, a_inputs j = nI (P j)) (h3 : C t ≤ 3) (hb : ∀ i, i < C t → P (t * 3 + i) < 8 + t) (hS : a_stored t = nI (S t)) (hS40 : S t ≤ 40) (h1 : bg_sto (S t) a_store t (bg_rc (a_constants t) (C t) (fun i => bg_vl a_contents a_now (P (t * 3 + i)))) → post 1) (h0 : ¬ bg_sto (S t) a_store t (bg_rc (a_constants t) (C t) (fun i => bg_vl a_contents a_now (P (t * 3 + i)))) → post 0) : wpY_isStored post (f_tasks, f_builds, f_done, a_contents, a_kinds, a_constants, a_counts, a_inputs, a_outputs, a_states, a_hasLast, a_last, a_stored, a_store, a_now) (nI t) :=
  ⟨S t + 1, ya_stoL ht hC hP h3 hb hS hS40 h1 h0 (S t) 0 (S t + 1) (by omega) (by omega) lt_0⟩
theorem ya_neeL1 {post : Int32 → Prop} {J : Int32 → Int32 → Prop} {s : Int32} (hs : bt s t = true) (ht : t < 12) (hC : ∀ j, a_counts j = nI (C j)) (hP : ∀ j, a_inputs j = nI (P j)) (h3 : C t ≤ 3) (hb : ∀ i, i < C t → P (t * 3 + i) < 8 + t) (hJ : J (s ||| bg_it P t (C t)) (nI t + (-1))) : ∀ d i n, i + d = C t → d < n → wY_needs_13 post J (nI t) f_tasks f_builds f_done a_contents a_kinds a_constants a_counts a_inputs a_outputs a_states a_hasLast a_last a_stored a_store a_now n (s ||| bg_it P t i) (nI i) := by
  have hin : vp_in (nI t) 12 := vp_in_nI ht (by omega)
  have hc : a_counts (nI t).toNatClampNeg = nI (C t) := by rw [nI_clamp (by omega)]; exact hC t
  intro d
  induction d with
  | zero =>
    intro i n hi hn
    obtain ⟨m, rfl⟩ : ∃ m, n = m + 1 := ⟨n - 1, by omega⟩
    have e : i = C t := by omega
    subst e
    exact And.intro hin (pk_le (C t) (C t) (fun _ => nm_e hJ) (fun h => absurd h (by omega)) hc rfl)
  | succ d ih =>
    intro i n hi hn
    obtain ⟨m, rfl⟩ : ∃ m, n = m + 1 := ⟨n - 1, by omega⟩
    have hbi := hb i (by omega)
    have hi36 : vp_in (nI t * 3 + nI i) 36 := by rw [bg_i3]; exact vp_in_nI (by omega) (by omega)
    have hpi : a_inputs (nI t * 3 + nI i).toNatClampNeg = nI (P (t * 3 + i)) := by rw [bg_i3, nI_clamp (by omega)]; exact hP _
    have K := ih (i + 1) m (by omega) (by omega)
    have hbt : bt (s ||| bg_it P t i) t = true := by rw [b_or, hs, Bool.true_or]
    refine And.intro hin (pk_le (C t) i (fun h => absurd h (by omega)) (fun _ => br_t (bg_bitT (by omega) hbt) (And.intro hi36 (pk_lt (P (t * 3 + i)) 8 (fun h8 => ?_) (fun h8 => And.intro hi36 ?_) hpi rfl))) hc rfl)
    · rw [bg_itL h8] at K
      exact nm_r (nI_1 i) K
    · have e8 : nI (P (t * 3 + i)) - 8 = nI (P (t * 3 + i) - 8) := pk_sub (b := 8) h8
      refine nm_r (e' := s ||| bg_it P t (i + 1)) ?_ (nm_r (nI_1 i) K)
      rw [bg_itH h8, hpi, e8, Int32.or_assoc]
      rfl
theorem ya_neeL0 {post : Int32 → Prop} {J : Int32 → Int32 → Prop} {s : Int32} (hs : ¬ bt s t = true) (ht : t < 12) (hC : ∀ j, a_counts j = nI (C j)) (h3 : C t ≤ 3) (hJ : J s (nI t + (-1))) : ∀ d i n, i + d = C t → d < n → wY_needs_13 post J (nI t) f_tasks f_builds f_done a_contents a_kinds a_constants a_counts a_inputs a_outputs a_states a_hasLast a_last a_stored a_store a_now n s (nI i) := by
  have hin : vp_in (nI t) 12 := vp_in_nI ht (by omega)
  have hc : a_counts (nI t).toNatClampNeg = nI (C t) := by rw [nI_clamp (by omega)]; exact hC t
  intro d
  induction d with
  | zero =>
    intro i n hi hn
    obtain ⟨m, rfl⟩ : ∃ m, n = m + 1 := ⟨n - 1, by omega⟩
    have e : i = C t := by omega
    subst e
    exact And.intro hin (pk_le (C t) (C t) (fun _ => nm_e hJ) (fun h => absurd h (by omega)) hc rfl)
  | succ d ih =>
    intro i n hi hn
    obtain ⟨m, rfl⟩ : ∃ m, n = m + 1 := ⟨n - 1, by omega⟩
    have K := ih (i + 1) m (by omega) (by omega)
    exact And.intro hin (pk_le (C t) i (fun h => absurd h (by omega)) (fun _ => br_f (bg_bitF (by omega) hs) (nm_r (nI_1 i) K)) hc rfl)
theorem ya_neeL {post : Int32 → Prop} (hC : ∀ j, a_counts j = nI (C j)) (hP : ∀ j, a_inputs j = nI (P j)) (h3 : ∀ j, C j ≤ 3) (hb : ∀ t i, i < C t → P (t * 3 + i) < 8 + t) : ∀ m s n, m ≤ 12 → m < n → post (bg_dn C P m s) → wY_needs_6 post f_tasks f_builds f_done a_contents a_kinds a_constants a_counts a_inputs a_outputs a_states a_hasLast a_last a_stored a_store a_now n s (nI m + (-1)) := by
  intro m
  induction m with
  | zero =>
    intro s n hm hn hp
    obtain ⟨n', rfl⟩ : ∃ m, n = m + 1 := ⟨n - 1, by omega⟩
    exact br_t (by decide) hp
  | succ m ih =>
    intro s n hm hn hp
    obtain ⟨n', rfl⟩ : ∃ m, n = m + 1 := ⟨n - 1, by omega⟩
    rw [pk_m1]
    refine br_f (nI_pos (by omega)) ⟨C m + 1, ?_⟩
    have hp' : post (bg_dn C P m (bg_ds C P m s)) := hp
    by_cases hs : bt s m = true
    · rw [bg_dsT hs] at hp'
      have K : wY_needs_13 post (wY_needs_6 post f_tasks f_builds f_done a_contents a_kinds a_constants a_counts a_inputs a_outputs a_states a_hasLast a_last a_stored a_store a_now n') (nI m) f_tasks f_builds f_done a_contents a_kinds a_constants a_counts a_inputs a_outputs a_states a_hasLast a_last a_stored a_store a_now (C m + 1) (s ||| bg_it P m 0) (nI 0) := ya_neeL1 hs (by omega) hC hP (h3 m) (hb m) (ih _ n' (by omega) (by omega) hp') (C m) 0 (C m + 1) (by omega) (by omega)
      have e : s ||| bg_it P m 0 = s := Int32.or_zero
      rw [e] at K
      exact K
    · rw [bg_dsF hs] at hp'
      exact ya_neeL0 hs (by omega) hC (h3 m) (ih _ n' (by omega) (by omega) hp') (C m) 0 (C m + 1) (by omega) (by omega)
theorem ya_needs {post : Int32 → Prop} (ht : t < 12) (hC : ∀ j, a_counts j = nI (C j)) (hP : ∀ j, a_inputs j = nI (P j)) (h3 : ∀ j, C j ≤ 3) (hb : ∀ t i, i < C t → P (t * 3 + i) < 8 + t) (hp : post (bg_ms C P t)) : wpY_needs post (f_tasks, f_builds, f_done, a_contents, a_kinds, a_constants, a_counts, a_inputs, a_outputs, a_states, a_hasLast, a_last, a_stored, a_store, a_now) (nI t) := by
  have K : wY_needs_6 post f_tasks f_builds f_done a_contents a_kinds a_constants a_counts a_inputs a_outputs a_states a_hasLast a_last a_stored a_store a_now (t + 2) (bg_bb t) (nI (t + 1) + (-1)) := ya_neeL hC hP h3 hb (t + 1) (bg_bb t) (t + 2) (by omega) (by omega) hp
  rw [pk_m1] at K
  exact nm_e ⟨t + 2, K⟩
/-! Y: workOut -/
theorem yb_outL {post : SY → Prop} {J : Int32 → (Nat → Int32) → (Nat → Int32) → (Nat → Int32) → (Nat → Int32) → (Nat → Int32) → (Nat → Int32) → (Nat → Int32) → (Nat → Int32) → (Nat → Int32) → (Nat → Int32) → (Nat → Int32) → (Nat → Int32) → Prop} {x0 : Int32} (ht : t < 12) (hC : ∀ j, a_counts j = nI (C j)) (hP : ∀ j, a_inputs j = nI (P j)) (h3 : C t ≤ 3) (hb : ∀ i, i < C t → P (t * 3 + i) < 8 + t) (hk : a_kinds t = 0 ∨ a_kinds t = 1 ∨ a_kinds t = 2 ∨ a_kinds t = 3) (hJ : J (nI (t + 1)) a_contents a_kinds a_constants a_counts a_inputs a_outputs a_states a_hasLast a_last a_stored a_store (upd a_now t (if a_kinds t = 3 then bg_fd (a_kinds t) (fun i => bg_vl a_contents a_now (P (t * 3 + i))) (C t) x0 &&& 15 else bg_fd (a_kinds t) (fun i => bg_vl a_contents a_now (P (t * 3 + i))) (C t) x0))) : ∀ d i n, i + d = C t → d < n → wY_workOut_33 post J (nI t) f_tasks f_builds f_done a_contents a_kinds a_constants a_counts a_inputs a_outputs a_states a_hasLast a_last a_stored a_store a_now n (bg_fd (a_kinds t) (fun i => bg_vl a_contents a_now (P (t * 3 + i))) i x0) (nI i) := by
  have hin : vp_in (nI t) 12 := vp_in_nI ht (by omega)
  have hc : a_counts (nI t).toNatClampNeg = nI (C t) := by rw [nI_clamp (by omega)]; exact hC t
  have ek : a_kinds (nI t).toNatClampNeg = a_kinds t := by rw [nI_clamp (by omega)]
  intro d
  induction d with
  | zero =>
    intro i n hi hn
    obtain ⟨m, rfl⟩ : ∃ m, n = m + 1 := ⟨n - 1, by omega⟩
    have e : i = C t := by omega
    subst e
    refine And.intro hin (pk_le (C t) (C t) (fun _ => And.intro hin (br_c (fun h => And.intro hin ?_) (fun h => And.intro hin ?_))) (fun h => absurd h (by omega)) hc rfl)
    · rw [ek] at h
      rw [if_pos h] at hJ
      exact nm_r (by rw [nI_clamp (by omega)]) (nm_r (nI_1 t) hJ)
    · rw [ek] at h
      rw [if_neg h] at hJ
      exact nm_r (by rw [nI_clamp (by omega)]) (nm_r (nI_1 t) hJ)
  | succ d ih =>
    intro i n hi hn
    obtain ⟨m, rfl⟩ : ∃ m, n = m + 1 := ⟨n - 1, by omega⟩
    have K := ih (i + 1) m (by omega) (by omega)
    have e : bg_fd (a_kinds t) (fun i => bg_vl a_contents a_now (P (t * 3 + i))) (i + 1) x0 = bg_sp (a_kinds t) (bg_fd (a_kinds t) (fun i => bg_vl a_contents a_now (P (t * 3 + i))) i x0) (bg_vl a_contents a_now (P (t * 3 + i))) := rfl
    rw [e] at K
    refine And.intro hin (pk_le (C t) i (fun h => absurd h (by omega)) (fun hlt => ?_) hc rfl)
    refine ya_value ht hC hP h3 hb (by omega) ?_
    rw [if_pos hlt]
    refine And.intro hin ?_
    unfold bg_sp at K
    rcases hk with hk | hk | hk | hk
    · rw [if_neg (by rw [hk]; decide), if_neg (by rw [hk]; decide)] at K
      exact br_t (ek.trans hk) (nm_e (nm_r (nI_1 i) K))
    · rw [if_pos hk] at K
      exact br_f (by rw [ek, hk]; decide) (And.intro hin (br_f (by rw [ek, hk]; decide) (And.intro hin (br_t (ek.trans hk) (nm_e (nm_r (nI_1 i) K))))))
    · rw [if_neg (by rw [hk]; decide), if_pos hk] at K
      refine br_f (by rw [ek, hk]; decide) (And.intro hin (br_f (by rw [ek, hk]; decide) (And.intro hin (br_f (by rw [ek, hk]; decide) (br_c (fun h => ?_) (fun h => ?_))))))
      · rw [if_pos h] at K
        exact nm_r (nI_1 i) K
      · rw [if_neg h] at K
        exact nm_r (nI_1 i) K
    · rw [if_neg (by rw [hk]; decide), if_neg (by rw [hk]; decide)] at K
      exact br_f (by rw [ek, hk]; decide) (And.intro hin (br_t (ek.trans hk) (nm_e (nm_r (nI_1 i) K))))
theorem yb_nowL {post : SY → Prop} {T : Nat} (hT : T ≤ 12) (hC : ∀ j, a_counts j = nI (C j)) (hP : ∀ j, a_inputs j = nI (P j)) (h3 : ∀ j, C j ≤ 3) (hb : ∀ t i, i < C t → P (t * 3 + i) < 8 + t) (hk : ∀ j, a_kinds j = 0 ∨ a_kinds j = 1 ∨ a_kinds j = 2 ∨ a_kinds j = 3) (hp : post ((nI T), f_builds, f_done, a_contents, a_kinds, a_constants, a_counts, a_inputs, a_outputs, a_states, a_hasLast, a_last, a_stored, a_store, bg_nw (bg_R a_kinds a_constants C P a_contents) a_now T)) : ∀ d t n, t + d = T → d < n → wY_workOut_2 post (nI T) f_builds f_done n (nI t) a_contents a_kinds a_constants a_counts a_inputs a_outputs a_states a_hasLast a_last a_stored a_store (bg_nw (bg_R a_kinds a_constants C P a_contents) a_now t) := by
  intro d
  induction d with
  | zero =>
    intro t n ht hn
    obtain ⟨m, rfl⟩ : ∃ m, n = m + 1 := ⟨n - 1, by omega⟩
    have e : t = T := by omega
    subst e
    exact br_t (nI_le (Nat.le_refl t) (by omega)) hp
  | succ d ih =>
    intro t n ht hn
    obtain ⟨m, rfl⟩ : ∃ m, n = m + 1 := ⟨n - 1, by omega⟩
    have hin : vp_in (nI t) 12 := vp_in_nI (by omega) (by omega)
    have ek : a_kinds (nI t).toNatClampNeg = a_kinds t := by rw [nI_clamp (by omega)]
    have ec : a_constants (nI t).toNatClampNeg = a_constants t := by rw [nI_clamp (by omega)]
    have K := ih (t + 1) m (by omega) (by omega)
    have e : bg_nw (bg_R a_kinds a_constants C P a_contents) a_now (t + 1) = upd (bg_nw (bg_R a_kinds a_constants C P a_contents) a_now t) t (bg_rs (a_kinds t) (a_constants t) (C t) (fun i => bg_vl a_contents (bg_nw (bg_R a_kinds a_constants C P a_contents) a_now t) (P (t * 3 + i)))) := rfl
    rw [e] at K
    unfold bg_rs at K
    refine br_f (nI_ge (by omega) (by omega)) (And.intro hin (br_c (fun h => ⟨C t + 1, ?_⟩) (fun h => And.intro hin (nm_r ec ⟨C t + 1, ?_⟩))))
    · rw [ek] at h
      rw [if_pos h] at K
      refine yb_outL (x0 := 0) (by omega) hC hP (h3 t) (hb t) (hk t) ?_ (C t) 0 (C t + 1) (by omega) (by omega)
      rw [if_pos h]
      exact K
    · rw [ek] at h
      rw [if_neg h] at K
      refine yb_outL (x0 := a_constants t) (by omega) hC hP (h3 t) (hb t) (hk t) ?_ (C t) 0 (C t + 1) (by omega) (by omega)
      rw [if_neg h]
      exact K
theorem yb_workOutD {post : SY → Prop} {T : Nat} (hT : T ≤ 12) (hC : ∀ j, a_counts j = nI (C j)) (hP : ∀ j, a_inputs j = nI (P j)) (h3 : ∀ j, C j ≤ 3) (hb : ∀ t i, i < C t → P (t * 3 + i) < 8 + t) (hk : ∀ j, a_kinds j = 0 ∨ a_kinds j = 1 ∨ a_kinds j = 2 ∨ a_kinds j = 3) (hp : post ((nI T), f_builds, f_done, a_contents, a_kinds, a_constants, a_counts, a_inputs, a_outputs, a_states, a_hasLast, a_last, a_stored, a_store, bg_nw (bg_R a_kinds a_constants C P a_contents) a_now T)) : wpY_workOut post ((nI T), f_builds, f_done, a_contents, a_kinds, a_constants, a_counts, a_inputs, a_outputs, a_states, a_hasLast, a_last, a_stored, a_store, a_now) :=
  ⟨T + 1, yb_nowL hT hC hP h3 hb hk hp T 0 (T + 1) (by omega) (by omega)⟩
theorem yb_workOut {post : SY → Prop} {T : Nat} (hT : T ≤ 12) (hC : ∀ j, a_counts j = nI (C j)) (hP : ∀ j, a_inputs j = nI (P j)) (h3 : ∀ j, C j ≤ 3) (hb : ∀ t i, i < C t → P (t * 3 + i) < 8 + t) (hk : ∀ j, a_kinds j = 0 ∨ a_kinds j = 1 ∨ a_kinds j = 2 ∨ a_kinds j = 3) (hp : ∀ nw, bg_FX (bg_R a_kinds a_constants C P a_contents) T nw → post ((nI T), f_builds, f_done, a_contents, a_kinds, a_constants, a_counts, a_inputs, a_outputs, a_states, a_hasLast, a_last, a_stored, a_store, nw)) : wpY_workOut post ((nI T), f_builds, f_done, a_contents, a_kinds, a_constants, a_counts, a_inputs, a_outputs, a_states, a_hasLast, a_last, a_stored, a_store, a_now) := by
  have hl : bg_Lc (bg_R a_kinds a_constants C P a_contents) T := fun o o' t _ h => bg_RC (hb t) h
  exact ⟨T + 1, yb_nowL hT hC hP h3 hb hk (hp _ (bg_nwF hl)) T 0 (T + 1) (by omega) (by omega)⟩
/-! Y: handle -/
theorem yc_108 {post : SY → Prop} (ht : t < 12) (hC : ∀ j, a_counts j = nI (C j)) (hP : ∀ j, a_inputs j = nI (P j)) (h3 : C t ≤ 3) (hb : ∀ i, i < C t → P (t * 3 + i) < 8 + t) (hp : post (f_tasks, f_builds, f_done, a_contents, a_kinds, a_constants, a_counts, a_inputs, upd a_outputs t (a_now t), a_states, upd a_hasLast t 1, bg_cp a_last (t * 5) (bg_rc (a_constants t) (C t) (fun i => bg_vl a_contents a_now (P (t * 3 + i)))) 5, a_stored, a_store, a_now)) : ∀ d i n, i + d = 5 → d < n → wY_handle_108 post (nI t) f_tasks f_builds f_done n (nI i) a_contents a_kinds a_constants a_counts a_inputs a_outputs a_states a_hasLast (bg_cp a_last (t * 5) (bg_rc (a_constants t) (C t) (fun i => bg_vl a_contents a_now (P (t * 3 + i)))) i) a_stored a_store a_now := by
  have hin : vp_in (nI t) 12 := vp_in_nI ht (by omega)
  have e1 : upd a_hasLast (nI t).toNatClampNeg (vp_nar .boolean 1) = upd a_hasLast t 1 := by rw [nI_clamp (by omega), bg_vb1]
  have e2 : upd a_outputs (nI t).toNatClampNeg (a_now (nI t).toNatClampNeg) = upd a_outputs t (a_now t) := by rw [nI_clamp (by omega)]
  intro d
  induction d with
  | zero =>
    intro i n hi hn
    obtain ⟨m, rfl⟩ : ∃ m, n = m + 1 := ⟨n - 1, by omega⟩
    have e : i = 5 := by omega
    subst e
    exact br_t (by decide) (And.intro hin (nm_r e1 (And.intro hin (And.intro hin (nm_r e2 hp)))))
  | succ d ih =>
    intro i n hi hn
    obtain ⟨m, rfl⟩ : ∃ m, n = m + 1 := ⟨n - 1, by omega⟩
    have hi60 : vp_in (nI t * 5 + nI i) 60 := by rw [bg_i5]; exact vp_in_nI (by omega) (by omega)
    have K := ih (i + 1) m (by omega) (by omega)
    refine br_f (nI_ge (b := 5) (by omega) (by omega)) ?_
    refine ya_part ht hC hP h3 hb (by omega) ?_
    refine And.intro hi60 (nm_r (e' := bg_cp a_last (t * 5) (bg_rc (a_constants t) (C t) (fun i => bg_vl a_contents a_now (P (t * 3 + i)))) (i + 1)) ?_ (nm_r (nI_1 i) K))
    rw [bg_i5, nI_clamp (by omega)]
    exact bg_cps rfl rfl
theorem yc_108' {post : SY → Prop} (ht : t < 12) (hC : ∀ j, a_counts j = nI (C j)) (hP : ∀ j, a_inputs j = nI (P j)) (h3 : C t ≤ 3) (hb : ∀ i, i < C t → P (t * 3 + i) < 8 + t) (hp : post (f_tasks, f_builds, f_done, a_contents, a_kinds, a_constants, a_counts, a_inputs, upd a_outputs t (a_now t), a_states, upd a_hasLast t 1, bg_cp a_last (t * 5) (bg_rc (a_constants t) (C t) (fun i => bg_vl a_contents a_now (P (t * 3 + i)))) 5, a_stored, a_store, a_now)) : ∃ n, wY_handle_108 post (nI t) f_tasks f_builds f_done n 0 a_contents a_kinds a_constants a_counts a_inputs a_outputs a_states a_hasLast a_last a_stored a_store a_now := by
  have K : wY_handle_108 post (nI t) f_tasks f_builds f_done 6 (nI 0) a_contents a_kinds a_constants a_counts a_inputs a_outputs a_states a_hasLast (bg_cp a_last (t * 5) (bg_rc (a_constants t) (C t) (fun i => bg_vl a_contents a_now (P (t * 3 + i)))) 0) a_stored a_store a_now := yc_108 ht hC hP h3 hb hp 5 0 6 (by omega) (by omega)
  rw [bg_cp0] at K
  exact ⟨6, K⟩
theorem yc_45 {post : SY → Prop} (ht : t < 12) (hC : ∀ j, a_counts j = nI (C j)) (hP : ∀ j, a_inputs j = nI (P j)) (h3 : C t ≤ 3) (hb : ∀ i, i < C t → P (t * 3 + i) < 8 + t) (hS : a_stored t = nI (S t)) (hS40 : S t < 40) (hp : post (f_tasks, f_builds, f_done + 1, a_contents, a_kinds, a_constants, a_counts, a_inputs, upd a_outputs t (a_now t), a_states, upd a_hasLast t 1, bg_cp a_last (t * 5) (bg_rc (a_constants t) (C t) (fun i => bg_vl a_contents a_now (P (t * 3 + i)))) 5, upd a_stored t (nI (S t + 1)), bg_cp a_store ((t * 40 + S t) * 5) (bg_rc (a_constants t) (C t) (fun i => bg_vl a_contents a_now (P (t * 3 + i)))) 5, a_now)) : ∀ d i n, i + d = 5 → d < n → wY_handle_45 post (nI t) f_tasks f_builds f_done n (nI i) a_contents a_kinds a_constants a_counts a_inputs a_outputs a_states a_hasLast a_last a_stored (bg_cp a_store ((t * 40 + S t) * 5) (bg_rc (a_constants t) (C t) (fun i => bg_vl a_contents a_now (P (t * 3 + i)))) i) a_now := by
  have hin : vp_in (nI t) 12 := vp_in_nI ht (by omega)
  have hs : a_stored (nI t).toNatClampNeg = nI (S t) := by rw [nI_clamp (by omega)]; exact hS
  have e1 : upd a_stored (nI t).toNatClampNeg (a_stored (nI t).toNatClampNeg + 1) = upd a_stored t (nI (S t + 1)) := by rw [hs, nI_clamp (by omega), nI_1]
  intro d
  induction d with
  | zero =>
    intro i n hi hn
    obtain ⟨m, rfl⟩ : ∃ m, n = m + 1 := ⟨n - 1, by omega⟩
    have e : i = 5 := by omega
    subst e
    exact br_t (by decide) (And.intro hin (And.intro hin (nm_r e1 (nm_e (yc_108' ht hC hP h3 hb hp)))))
  | succ d ih =>
    intro i n hi hn
    obtain ⟨m, rfl⟩ : ∃ m, n = m + 1 := ⟨n - 1, by omega⟩
    have ei : (nI t * 40 + a_stored (nI t).toNatClampNeg) * 5 + nI i = nI ((t * 40 + S t) * 5 + i) := by rw [hs, bg_i40]
    have hi60 : vp_in ((nI t * 40 + a_stored (nI t).toNatClampNeg) * 5 + nI i) 2400 := by rw [ei]; exact vp_in_nI (by omega) (by omega)
    have K := ih (i + 1) m (by omega) (by omega)
    refine br_f (nI_ge (b := 5) (by omega) (by omega)) (And.intro hin ?_)
    refine ya_part ht hC hP h3 hb (by omega) ?_
    refine And.intro hi60 (nm_r (e' := bg_cp a_store ((t * 40 + S t) * 5) (bg_rc (a_constants t) (C t) (fun i => bg_vl a_contents a_now (P (t * 3 + i)))) (i + 1)) ?_ (nm_r (nI_1 i) K))
    rw [ei, nI_clamp (by omega)]
    exact bg_cps rfl rfl
theorem yc_handle {post : SY → Prop} (ht : t < 12) (hC : ∀ j, a_counts j = nI (C j)) (hP : ∀ j, a_inputs j = nI (P j)) (h3 : C t ≤ 3) (hb : ∀ i, i < C t → P (t * 3 + i) < 8 + t) (hS : a_stored t = nI (S t)) (hS40 : S t < 40)
    (p1 : a_hasLast t ≠ 0 ∧ bg_E5 (fun i => a_last (t * 5 + i)) (bg_rc (a_constants t) (C t) (fun i => bg_vl a_contents a_now (P (t * 3 + i)))) → post (f_tasks, f_builds, f_done, a_contents, a_kinds, a_constants, a_counts, a_inputs, upd a_outputs t (a_now t), upd a_states t 1, upd a_hasLast t 1, bg_cp a_last (t * 5) (bg_rc (a_constants t) (C t) (fun i => bg_vl a_contents a_now (P (t * 3 + i)))) 5, a_stored, a_store, a_now))
    (p2 : ¬ (a_hasLast t ≠ 0 ∧ bg_E5 (fun i => a_last (t * 5 + i)) (bg_rc (a_constants t) (C t) (fun i => bg_vl a_contents a_now (P (t * 3 + i))))) → bg_sto (S t) a_store t (bg_rc (a_constants t) (C t) (fun i => bg_vl a_contents a_now (P (t * 3 + i)))) → post (f_tasks, f_builds, f_done, a_contents, a_kinds, a_constants, a_counts, a_inputs, upd a_outputs t (a_now t), upd a_states t 2, upd a_hasLast t 1, bg_cp a_last (t * 5) (bg_rc (a_constants t) (C t) (fun i => bg_vl a_contents a_now (P (t * 3 + i)))) 5, a_stored, a_store, a_now))
    (p3 : ¬ (a_hasLast t ≠ 0 ∧ bg_E5 (fun i => a_last (t * 5 + i)) (bg_rc (a_constants t) (C t) (fun i => bg_vl a_contents a_now (P (t * 3 + i))))) → ¬ bg_sto (S t) a_store t (bg_rc (a_constants t) (C t) (fun i => bg_vl a_contents a_now (P (t * 3 + i)))) → post (f_tasks, f_builds, f_done + 1, a_contents, a_kinds, a_constants, a_counts, a_inputs, upd a_outputs t (a_now t), upd a_states t 3, upd a_hasLast t 1, bg_cp a_last (t * 5) (bg_rc (a_constants t) (C t) (fun i => bg_vl a_contents a_now (P (t * 3 + i)))) 5, upd a_stored t (nI (S t + 1)), bg_cp a_store ((t * 40 + S t) * 5) (bg_rc (a_constants t) (C t) (fun i => bg_vl a_contents a_now (P (t * 3 + i)))) 5, a_now)) : wpY_handle post (f_tasks, f_builds, f_done, a_contents, a_kinds, a_constants, a_counts, a_inputs, a_outputs, a_states, a_hasLast, a_last, a_stored, a_store, a_now) (nI t) := by
  have hin : vp_in (nI t) 12 := vp_in_nI ht (by omega)
  have e1 : ∀ y, upd a_states (nI t).toNatClampNeg y = upd a_states t y := fun y => by rw [nI_clamp (by omega)]
  unfold wpY_handle
  refine ya_isLast ht hC hP h3 hb (fun z1 z2 => ?_) (fun z => ?_)
  · exact br_f (by decide) (And.intro hin (nm_r (e1 1) (yc_108' ht hC hP h3 hb (p1 ⟨z1, z2⟩))))
  · refine br_t rfl ?_
    refine ya_isStored ht hC hP h3 hb hS (Nat.le_of_lt hS40) (fun y => ?_) (fun y => ?_)
    · exact br_f (by decide) (And.intro hin (nm_r (e1 2) (yc_108' ht hC hP h3 hb (p2 z y))))
    · refine br_t rfl (And.intro hin (nm_r (e1 3) ⟨6, ?_⟩))
      have K : wY_handle_45 post (nI t) f_tasks f_builds f_done 6 (nI 0) a_contents a_kinds a_constants a_counts a_inputs a_outputs (upd a_states t 3) a_hasLast a_last a_stored (bg_cp a_store ((t * 40 + S t) * 5) (bg_rc (a_constants t) (C t) (fun i => bg_vl a_contents a_now (P (t * 3 + i)))) 0) a_now := yc_45 ht hC hP h3 hb hS hS40 (p3 z y) 5 0 6 (by omega) (by omega)
      rw [bg_cp0] at K
      exact K
end
end
section
/-! the relation's facts -/
def rg_A (T : Nat) (C P : Nat → Nat) (inp input kd : Nat → Int32) : Prop := T ≤ 12 ∧ (∀ j, inp j = nI (C j)) ∧ (∀ j, C j ≤ 3) ∧ (∀ j, T ≤ j → C j = 0) ∧ (∀ j, input j = nI (P j)) ∧ (∀ t i, i < C t → P (t * 3 + i) < 8 + t) ∧ (∀ j, kd j = 0 ∨ kd j = 1 ∨ kd j = 2 ∨ kd j = 3)
def rg_B (T : Nat) (oc : Nat → Int32) : Prop := ∀ j, T ≤ j → oc j = 0
def rg_C (T : Nat) (hl : Nat → Int32) (LN : Nat → Nat) (li : Nat → Int32) : Prop := (∀ j, hl j = 0 ∨ hl j = 1) ∧ (∀ j, T ≤ j → hl j = 0) ∧ (∀ j, li j = nI (LN j)) ∧ (∀ j, LN j ≤ 3)
def rg_L (hl lc : Nat → Int32) (LN : Nat → Nat) (lv kd out last : Nat → Int32) : Prop := ∀ t, t < 12 → hl t ≠ 0 → bg_E5 (fun i => last (t * 5 + i)) (bg_rc (lc t) (LN t) (fun i => lv (t * 3 + i))) ∧ out t = bg_rs (kd t) (lc t) (LN t) (fun i => lv (t * 3 + i))
def rg_D (k t V : Nat) (seen : Nat → Int32) : Prop := V ≤ k ∧ (∀ j, seen j ≤ nI V) ∧ ∀ j, t ≤ j → j < 12 → ¬ nI V ≤ seen j
def rg_U (C P : Nat → Nat) (ct cr cs tr hl lc : Nat → Int32) (LN : Nat → Nat) (lv seen out orv : Nat → Int32) : Prop := ∀ t, t < 12 → hl t ≠ 0 → tr t ≤ seen t → lc t = cs t ∧ LN t = C t ∧ ∀ i, i < C t → bg_vl cr orv (P (t * 3 + i)) ≤ seen t → lv (t * 3 + i) = bg_vl ct out (P (t * 3 + i))
def rg_N (t B N : Nat) (S : Nat → Nat) (stored : Nat → Int32) : Prop := B ≤ 40 ∧ N + 12 ≤ 12 * B + t ∧ (∀ j, stored j = nI (S j)) ∧ (∀ j, j < 12 → S j ≤ B) ∧ (∀ j, t ≤ j → j < 12 → S j < B)
def rg_K (N : Nat) (own KN : Nat → Nat) (nw od hs kc ki kv : Nat → Int32) : Prop := (∀ t, t < 12 → nw t = bg_pv own t N) ∧ (∀ r, r < N → od r = bg_pv own (own r) r) ∧ (∀ j, ki j = nI (KN j)) ∧ (∀ j, KN j ≤ 3) ∧ (∀ r, r < N → hs r = bg_hh (kc r) (KN r) (fun i => kv (r * 3 + i)))
def rg_M (N : Nat) (own KN S : Nat → Nat) (kc kv store : Nat → Int32) : Prop := ∀ t, t < 12 → ∀ R, (∃ r, r < N ∧ own r = t ∧ bg_E5 (bg_rc (kc r) (KN r) (fun i => kv (r * 3 + i))) R) ↔ bg_sto (S t) store t R
def rg_F (k t V T B N : Nat) (C P LN KN own S : Nat → Nat) (a_contents a_contentRevision a_kind a_constants a_inputs a_input a_taskRevision a_hasLast a_lastConstant a_lastInputs a_lastValue a_seenRevision a_outputs a_outputRevision a_newest a_older a_hash a_keptConstant a_keptInputs a_keptValue a_outcome b_last b_stored b_store : Nat → Int32) : Prop :=
  rg_A T C P a_inputs a_input a_kind ∧ rg_B T a_outcome ∧ rg_C T a_hasLast LN a_lastInputs ∧ rg_L a_hasLast a_lastConstant LN a_lastValue a_kind a_outputs b_last ∧ rg_D k t V a_seenRevision ∧ rg_U C P a_contents a_contentRevision a_constants a_taskRevision a_hasLast a_lastConstant LN a_lastValue a_seenRevision a_outputs a_outputRevision ∧ rg_N t B N S b_stored ∧ rg_K N own KN a_newest a_older a_hash a_keptConstant a_keptInputs a_keptValue ∧ rg_M N own KN S a_keptConstant a_keptValue b_store
section
variable {k t V T B N : Nat} {C P LN KN own S : Nat → Nat}
variable {a_contents a_contentRevision a_kind a_constants a_inputs a_input a_taskRevision a_hasLast a_lastConstant a_lastInputs a_lastValue a_seenRevision a_outputs a_outputRevision a_newest a_older a_hash a_keptConstant a_keptInputs a_keptValue a_outcome b_last b_stored b_store b_now : Nat → Int32}
/-! one task handled: pure -/
theorem rh_L {v : Nat → Int32} {cs : Int32} {n t : Nat} (hn : n ≤ 3) (hL3 : ∀ j, LN j ≤ 3) (ht : t < 12) (h : rg_L a_hasLast a_lastConstant LN a_lastValue a_kind a_outputs b_last) : rg_L (upd a_hasLast t 1) (upd a_lastConstant t cs) (bg_un LN t n) (bg_cp a_lastValue (t * 3) v n) a_kind (upd a_outputs t (bg_rs (a_kind t) cs n v)) (bg_cp b_last (t * 5) (bg_rc cs n v) 5) := by
  intro s hs hl
  by_cases e : s = t
  · subst e
    rw [pk_us, pk_us, bg_uns]
    have hv : ∀ i, i < n → bg_cp a_lastValue (s * 3) v n (s * 3 + i) = v i := fun i hi => bg_cpi hi
    refine ⟨fun i hi => ?_, bg_rsC (fun i hi => (hv i hi).symm)⟩
    show bg_cp b_last (s * 5) (bg_rc cs n v) 5 (s * 5 + i) = _
    rw [bg_cpi hi, bg_rcC hv]
  · rw [pk_un e] at hl
    obtain ⟨h1, h2⟩ := h s hs hl
    have h3 := hL3 s
    rw [pk_un e, pk_un e, bg_unn e]
    have hv : ∀ i, i < LN s → bg_cp a_lastValue (t * 3) v n (s * 3 + i) = a_lastValue (s * 3 + i) := fun i hi => bg_cpo (by omega)
    refine ⟨fun i hi => ?_, h2.trans (bg_rsC (fun i hi => (hv i hi).symm))⟩
    show bg_cp b_last (t * 5) (bg_rc cs n v) 5 (s * 5 + i) = _
    rw [bg_cpo (by omega), bg_rcC hv]
    exact h1 i hi
theorem rh_U {v orv : Nat → Int32} {x : Int32} (hb : ∀ t i, i < C t → P (t * 3 + i) < 8 + t) (h3 : ∀ j, C j ≤ 3) (hD : rg_D k t V a_seenRevision) (hv : ∀ i, i < C t → bg_vl a_contents a_outputs (P (t * 3 + i)) = v i) (o1 : x = a_outputs t → orv = a_outputRevision) (o2 : x ≠ a_outputs t → orv = upd a_outputRevision t (nI V)) (h : rg_U C P a_contents a_contentRevision a_constants a_taskRevision a_hasLast a_lastConstant LN a_lastValue a_seenRevision a_outputs a_outputRevision) : rg_U C P a_contents a_contentRevision a_constants a_taskRevision (upd a_hasLast t 1) (upd a_lastConstant t (a_constants t)) (bg_un LN t (C t)) (bg_cp a_lastValue (t * 3) v (C t)) (upd a_seenRevision t (nI V)) (upd a_outputs t x) orv := by
  intro s hs hl htr
  have hso : ∀ p, p ≠ 8 + t → bg_vl a_contents (upd a_outputs t x) p = bg_vl a_contents a_outputs p := by
    intro p hp
    by_cases h8 : p < 8
    · rw [bg_vlL h8, bg_vlL h8]
    · rw [bg_vlH (by omega), bg_vlH (by omega), pk_un (by omega)]
  by_cases e : s = t
  · subst e
    rw [pk_us, bg_uns]
    refine ⟨rfl, rfl, fun i hi _ => ?_⟩
    have := hb s i hi
    rw [bg_cpi hi, hso _ (by omega)]
    exact (hv i hi).symm
  · rw [pk_un e] at hl
    rw [pk_un e] at htr
    obtain ⟨g1, g2, g3⟩ := h s hs hl htr
    rw [pk_un e, bg_unn e, pk_un e]
    refine ⟨g1, g2, fun i hi hc => ?_⟩
    have hp := hb s i hi
    have hs3 := h3 s
    have ht3 := h3 t
    rw [bg_cpo (by omega)]
    by_cases hx : x = a_outputs t
    · have e1 : upd a_outputs t x = a_outputs := bg_ui hx.symm
      rw [o1 hx] at hc
      rw [e1]
      exact g3 i hi hc
    · rw [o2 hx] at hc
      by_cases e8 : P (s * 3 + i) = 8 + t
      · rw [e8, bg_vlH (by omega), Nat.add_sub_cancel_left, pk_us] at hc
        exact absurd hc (hD.2.2 s (by omega) hs)
      · rw [hso _ e8]
        refine g3 i hi ?_
        by_cases h8 : P (s * 3 + i) < 8
        · rw [bg_vlL h8] at hc ⊢
          exact hc
        · rw [bg_vlH (by omega), pk_un (by omega)] at hc
          rw [bg_vlH (by omega)]
          exact hc
theorem rh_D (h : rg_D k t V a_seenRevision) : rg_D k (t + 1) V (upd a_seenRevision t (nI V)) := by
  obtain ⟨h1, h2, h3⟩ := h
  refine ⟨h1, fun j => ?_, fun j hj hj2 => ?_⟩
  · by_cases e : j = t
    · rw [e, pk_us]; exact Int32.le_refl _
    · rw [pk_un e]; exact h2 j
  · rw [pk_un (by omega)]
    exact h3 j (by omega) hj2
theorem rh_N (h : rg_N t B N S b_stored) : rg_N (t + 1) B N S b_stored :=
  ⟨h.1, by have := h.2.1; omega, h.2.2.1, h.2.2.2.1, fun j hj hj2 => h.2.2.2.2 j (by omega) hj2⟩
theorem rh_N3 (ht : t < 12) (h : rg_N t B N S b_stored) : rg_N (t + 1) B (N + 1) (bg_un S t (S t + 1)) (upd b_stored t (nI (S t + 1))) := by
  obtain ⟨h1, h2, h3, h4, h5⟩ := h
  refine ⟨h1, by omega, bg_nIu h3 t (S t + 1), fun j hj => ?_, fun j hj hj2 => ?_⟩
  · by_cases e : j = t
    · rw [e, bg_uns]
      have := h5 t (Nat.le_refl t) ht
      omega
    · rw [bg_unn e]; exact h4 j hj
  · rw [bg_unn (by omega)]
    exact h5 j (by omega) hj2
theorem rh_K3 {v : Nat → Int32} {cs : Int32} {n : Nat} (hn : n ≤ 3) (ht : t < 12) (h : rg_K N own KN a_newest a_older a_hash a_keptConstant a_keptInputs a_keptValue) : rg_K (N + 1) (bg_un own N t) (bg_un KN N n) (upd a_newest t (nI N)) (upd a_older N (a_newest t)) (upd a_hash N (bg_hh cs n v)) (upd a_keptConstant N cs) (upd a_keptInputs N (nI n)) (bg_cp a_keptValue (N * 3) v n) := by
  obtain ⟨h1, h2, h3, h4, h5⟩ := h
  have ho : ∀ m s, m ≤ N → bg_pv (bg_un own N t) s m = bg_pv own s m := fun m s hm => bg_pvC m (fun r hr => bg_unn (by omega))
  refine ⟨fun s hs => ?_, fun r hr => ?_, bg_nIu h3 N n, fun j => ?_, fun r hr => ?_⟩
  · by_cases e : s = t
    · subst e
      rw [pk_us, bg_pvS bg_uns]
    · rw [pk_un e, bg_pvN (by rw [bg_uns]; omega), ho N s (Nat.le_refl N)]
      exact h1 s hs
  · by_cases e : r = N
    · subst e
      rw [pk_us, bg_uns, ho r t (Nat.le_refl r)]
      exact h1 t ht
    · rw [pk_un e, bg_unn e, ho r _ (by omega)]
      exact h2 r (by omega)
  · by_cases e : j = N
    · rw [e, bg_uns]; exact hn
    · rw [bg_unn e]; exact h4 j
  · by_cases e : r = N
    · subst e
      rw [pk_us, pk_us, bg_uns]
      exact bg_hhC ⟨rfl, rfl, fun i hi => (bg_cpi hi).symm⟩
    · rw [pk_un e, pk_un e, bg_unn e, h5 r (by omega)]
      have := h4 r
      exact bg_hhC ⟨rfl, rfl, fun i hi => (bg_cpo (by omega)).symm⟩
theorem rh_M3 {v : Nat → Int32} {cs : Int32} {n : Nat} (ht : t < 12) (hK3 : ∀ j, KN j ≤ 3) (hS : ∀ j, j < 12 → S j ≤ 40) (hSt : S t < 40) (h : rg_M N own KN S a_keptConstant a_keptValue b_store) : rg_M (N + 1) (bg_un own N t) (bg_un KN N n) (bg_un S t (S t + 1)) (upd a_keptConstant N cs) (bg_cp a_keptValue (N * 3) v n) (bg_cp b_store ((t * 40 + S t) * 5) (bg_rc cs n v) 5) := by
  intro s hs R
  have key : (∃ r, r < N + 1 ∧ bg_un own N t r = s ∧ bg_E5 (bg_rc (upd a_keptConstant N cs r) (bg_un KN N n r) (fun i => bg_cp a_keptValue (N * 3) v n (r * 3 + i))) R) ↔ (∃ r, r < N ∧ own r = s ∧ bg_E5 (bg_rc (a_keptConstant r) (KN r) (fun i => a_keptValue (r * 3 + i))) R) ∨ (t = s ∧ bg_E5 (bg_rc cs n v) R) := by
    have hnew : bg_rc cs n (fun i => bg_cp a_keptValue (N * 3) v n (N * 3 + i)) = bg_rc cs n v := bg_rcC (fun i hi => bg_cpi hi)
    have hold : ∀ r, r < N → bg_rc (a_keptConstant r) (KN r) (fun i => bg_cp a_keptValue (N * 3) v n (r * 3 + i)) = bg_rc (a_keptConstant r) (KN r) (fun i => a_keptValue (r * 3 + i)) := by
      intro r hr
      have := hK3 r
      exact bg_rcC (fun i hi => bg_cpo (by omega))
    constructor
    · intro ⟨r, r1, r2, r3⟩
      by_cases e : r = N
      · subst e
        rw [bg_uns] at r2
        rw [pk_us, bg_uns, hnew] at r3
        exact Or.inr ⟨r2, r3⟩
      · rw [bg_unn e] at r2
        rw [pk_un e, bg_unn e, hold r (by omega)] at r3
        exact Or.inl ⟨r, by omega, r2, r3⟩
    · intro z
      rcases z with ⟨r, r1, r2, r3⟩ | ⟨r2, r3⟩
      · have e : r ≠ N := by omega
        refine ⟨r, by omega, ?_, ?_⟩
        · rw [bg_unn e]; exact r2
        · rw [pk_un e, bg_unn e, hold r r1]; exact r3
      · refine ⟨N, by omega, ?_, ?_⟩
        · rw [bg_uns]; exact r2
        · rw [pk_us, bg_uns, hnew]; exact r3
  rw [key, h s hs R]
  by_cases e : s = t
  · subst e
    rw [bg_uns]
    constructor
    · intro z
      rcases z with ⟨r, r1, r2⟩ | ⟨_, r3⟩
      · refine ⟨r, by omega, fun i hi => ?_⟩
        show bg_cp b_store ((s * 40 + S s) * 5) (bg_rc cs n v) 5 ((s * 40 + r) * 5 + i) = _
        rw [bg_cpo (by omega)]
        exact r2 i hi
      · refine ⟨S s, by omega, fun i hi => ?_⟩
        show bg_cp b_store ((s * 40 + S s) * 5) (bg_rc cs n v) 5 ((s * 40 + S s) * 5 + i) = _
        rw [bg_cpi hi]
        exact r3 i hi
    · intro ⟨r, r1, r2⟩
      by_cases er : r = S s
      · subst er
        refine Or.inr ⟨rfl, fun i hi => ?_⟩
        have := r2 i hi
        dsimp only at this
        rw [bg_cpi hi] at this
        exact this
      · refine Or.inl ⟨r, by omega, fun i hi => ?_⟩
        have := r2 i hi
        dsimp only at this
        rw [bg_cpo (by omega)] at this
        exact this
  · rw [bg_unn e]
    have hs40 := hS s hs
    constructor
    · intro z
      rcases z with ⟨r, r1, r2⟩ | ⟨r2, _⟩
      · refine ⟨r, r1, fun i hi => ?_⟩
        show bg_cp b_store ((t * 40 + S t) * 5) (bg_rc cs n v) 5 ((s * 40 + r) * 5 + i) = _
        rw [bg_cpo (by omega)]
        exact r2 i hi
      · exact absurd r2.symm e
    · intro ⟨r, r1, r2⟩
      refine Or.inl ⟨r, r1, fun i hi => ?_⟩
      have := r2 i hi
      dsimp only at this
      rw [bg_cpo (by omega)] at this
      exact this
theorem rh_B {r : Int32} (ht : t < T) (h : rg_B T a_outcome) : rg_B T (upd a_outcome t r) := by
  intro j hj
  rw [pk_un (by omega)]
  exact h j hj
theorem rh_C {n : Nat} (hn : n ≤ 3) (ht : t < T) (h : rg_C T a_hasLast LN a_lastInputs) : rg_C T (upd a_hasLast t 1) (bg_un LN t n) (upd a_lastInputs t (nI n)) := by
  obtain ⟨h1, h2, h3, h4⟩ := h
  refine ⟨fun j => ?_, fun j hj => ?_, bg_nIu h3 t n, fun j => ?_⟩
  · by_cases e : j = t
    · rw [e, pk_us]; exact Or.inr rfl
    · rw [pk_un e]; exact h1 j
  · rw [pk_un (by omega)]; exact h2 j hj
  · by_cases e : j = t
    · rw [e, bg_uns]; exact hn
    · rw [bg_unn e]; exact h4 j
/-- from the store -/
theorem rh_F2 {orv : Nat → Int32} {r : Int32} (ht : t < T) (hv : ∀ i, i < C t → bg_vl a_contents a_outputs (P (t * 3 + i)) = bg_vl a_contents b_now (P (t * 3 + i))) (o1 : (bg_rs (a_kind t) (a_constants t) (C t) (fun i => bg_vl a_contents b_now (P (t * 3 + i)))) = a_outputs t → orv = a_outputRevision) (o2 : (bg_rs (a_kind t) (a_constants t) (C t) (fun i => bg_vl a_contents b_now (P (t * 3 + i)))) ≠ a_outputs t → orv = upd a_outputRevision t (nI V)) (h : rg_F k t V T B N C P LN KN own S a_contents a_contentRevision a_kind a_constants a_inputs a_input a_taskRevision a_hasLast a_lastConstant a_lastInputs a_lastValue a_seenRevision a_outputs a_outputRevision a_newest a_older a_hash a_keptConstant a_keptInputs a_keptValue a_outcome b_last b_stored b_store) : rg_F k (t + 1) V T B N C P (bg_un LN t (C t)) KN own S a_contents a_contentRevision a_kind a_constants a_inputs a_input a_taskRevision (upd a_hasLast t 1) (upd a_lastConstant t (a_constants t)) (upd a_lastInputs t (nI (C t))) (bg_cp a_lastValue (t * 3) (fun i => bg_vl a_contents b_now (P (t * 3 + i))) (C t)) (upd a_seenRevision t (nI V)) (upd a_outputs t (bg_rs (a_kind t) (a_constants t) (C t) (fun i => bg_vl a_contents b_now (P (t * 3 + i))))) orv a_newest a_older a_hash a_keptConstant a_keptInputs a_keptValue (upd a_outcome t r) (bg_cp b_last (t * 5) (bg_rc (a_constants t) (C t) (fun i => bg_vl a_contents b_now (P (t * 3 + i)))) 5) b_stored b_store := by
  obtain ⟨hA, hB, hC, hL, hD, hU, hN, hK, hM⟩ := h
  have h12 := hA.1
  exact ⟨hA, rh_B ht hB, rh_C (hA.2.2.1 t) ht hC, rh_L (hA.2.2.1 t) hC.2.2.2 (by omega) hL, rh_D hD, rh_U hA.2.2.2.2.2.1 hA.2.2.1 hD hv o1 o2 hU, rh_N hN, hK, hM⟩
/-- executed -/
theorem rh_F3 {orv : Nat → Int32} {r : Int32} (ht : t < T) (hv : ∀ i, i < C t → bg_vl a_contents a_outputs (P (t * 3 + i)) = bg_vl a_contents b_now (P (t * 3 + i))) (o1 : (bg_rs (a_kind t) (a_constants t) (C t) (fun i => bg_vl a_contents b_now (P (t * 3 + i)))) = a_outputs t → orv = a_outputRevision) (o2 : (bg_rs (a_kind t) (a_constants t) (C t) (fun i => bg_vl a_contents b_now (P (t * 3 + i)))) ≠ a_outputs t → orv = upd a_outputRevision t (nI V)) (h : rg_F k t V T B N C P LN KN own S a_contents a_contentRevision a_kind a_constants a_inputs a_input a_taskRevision a_hasLast a_lastConstant a_lastInputs a_lastValue a_seenRevision a_outputs a_outputRevision a_newest a_older a_hash a_keptConstant a_keptInputs a_keptValue a_outcome b_last b_stored b_store) : rg_F k (t + 1) V T B (N + 1) C P (bg_un LN t (C t)) (bg_un KN N (C t)) (bg_un own N t) (bg_un S t (S t + 1)) a_contents a_contentRevision a_kind a_constants a_inputs a_input a_taskRevision (upd a_hasLast t 1) (upd a_lastConstant t (a_constants t)) (upd a_lastInputs t (nI (C t))) (bg_cp a_lastValue (t * 3) (fun i => bg_vl a_contents b_now (P (t * 3 + i))) (C t)) (upd a_seenRevision t (nI V)) (upd a_outputs t (bg_rs (a_kind t) (a_constants t) (C t) (fun i => bg_vl a_contents b_now (P (t * 3 + i))))) orv (upd a_newest t (nI N)) (upd a_older N (a_newest t)) (upd a_hash N (bg_hh (a_constants t) (C t) (fun i => bg_vl a_contents b_now (P (t * 3 + i))))) (upd a_keptConstant N (a_constants t)) (upd a_keptInputs N (nI (C t))) (bg_cp a_keptValue (N * 3) (fun i => bg_vl a_contents b_now (P (t * 3 + i))) (C t)) (upd a_outcome t r) (bg_cp b_last (t * 5) (bg_rc (a_constants t) (C t) (fun i => bg_vl a_contents b_now (P (t * 3 + i)))) 5) (upd b_stored t (nI (S t + 1))) (bg_cp b_store ((t * 40 + S t) * 5) (bg_rc (a_constants t) (C t) (fun i => bg_vl a_contents b_now (P (t * 3 + i)))) 5) := by
  obtain ⟨hA, hB, hC, hL, hD, hU, hN, hK, hM⟩ := h
  have h12 := hA.1
  have hS : S t < B := hN.2.2.2.2 t (Nat.le_refl t) (by omega)
  have hB40 := hN.1
  exact ⟨hA, rh_B ht hB, rh_C (hA.2.2.1 t) ht hC, rh_L (hA.2.2.1 t) hC.2.2.2 (by omega) hL, rh_D hD, rh_U hA.2.2.2.2.2.1 hA.2.2.1 hD hv o1 o2 hU, rh_N3 (by omega) hN, rh_K3 (hA.2.2.1 t) (by omega) hK, rh_M3 (by omega) hK.2.2.2.1 (fun j hj => Nat.le_trans (hN.2.2.2.1 j hj) hB40) (by omega) hM⟩
/-- up to date -/
theorem rh_F1 {r : Int32} (ht : t < T) (hv : ∀ i, i < C t → bg_vl a_contents a_outputs (P (t * 3 + i)) = bg_vl a_contents b_now (P (t * 3 + i))) (hl : bg_lst (a_hasLast t) (a_lastConstant t) (LN t) (fun i => a_lastValue (t * 3 + i)) (a_constants t) (C t) (fun i => bg_vl a_contents b_now (P (t * 3 + i)))) (h : rg_F k t V T B N C P LN KN own S a_contents a_contentRevision a_kind a_constants a_inputs a_input a_taskRevision a_hasLast a_lastConstant a_lastInputs a_lastValue a_seenRevision a_outputs a_outputRevision a_newest a_older a_hash a_keptConstant a_keptInputs a_keptValue a_outcome b_last b_stored b_store) : upd a_hasLast t 1 = a_hasLast ∧ upd a_outputs t (bg_rs (a_kind t) (a_constants t) (C t) (fun i => bg_vl a_contents b_now (P (t * 3 + i)))) = a_outputs ∧ rg_F k (t + 1) V T B N C P (bg_un LN t (C t)) KN own S a_contents a_contentRevision a_kind a_constants a_inputs a_input a_taskRevision a_hasLast a_lastConstant a_lastInputs a_lastValue (upd a_seenRevision t (nI V)) a_outputs a_outputRevision a_newest a_older a_hash a_keptConstant a_keptInputs a_keptValue (upd a_outcome t r) (bg_cp b_last (t * 5) (bg_rc (a_constants t) (C t) (fun i => bg_vl a_contents b_now (P (t * 3 + i)))) 5) b_stored b_store := by
  obtain ⟨hA, hB, hC, hL, hD, hU, hN, hK, hM⟩ := id h
  have h12 := hA.1
  obtain ⟨l1, l2, l3, l4⟩ := hl
  have h1 : a_hasLast t = 1 := (hC.1 t).resolve_left l1
  have e1 : upd a_hasLast t 1 = a_hasLast := bg_ui h1
  have e2 : upd a_lastConstant t (a_constants t) = a_lastConstant := bg_ui l2
  have e3 : upd a_lastInputs t (nI (C t)) = a_lastInputs := bg_ui (by rw [hC.2.2.1 t, l3])
  have e4 : bg_cp a_lastValue (t * 3) (fun i => bg_vl a_contents b_now (P (t * 3 + i))) (C t) = a_lastValue := by
    funext j
    by_cases hj : j < t * 3 ∨ t * 3 + C t ≤ j
    · exact bg_cpo hj
    · obtain ⟨i, rfl⟩ : ∃ i, j = t * 3 + i := ⟨j - t * 3, by omega⟩
      rw [bg_cpi (by omega)]
      exact (l4 i (by omega)).symm
  have e5 : (bg_rs (a_kind t) (a_constants t) (C t) (fun i => bg_vl a_contents b_now (P (t * 3 + i)))) = a_outputs t := by
    rw [(hL t (by omega) l1).2, l2, l3]
    exact bg_rsC (fun i hi => (l4 i hi).symm)
  have e6 : upd a_outputs t (bg_rs (a_kind t) (a_constants t) (C t) (fun i => bg_vl a_contents b_now (P (t * 3 + i)))) = a_outputs := bg_ui e5.symm
  have F := rh_F2 (r := r) ht hv (fun _ => rfl) (fun z => absurd e5 z) h
  rw [e1, e2, e3, e4, e6] at F
  exact ⟨e1, e6, F⟩
/-- the two sides ask the same of the last record, and of the store -/
theorem rh_lst {tt : Nat} (ht : t < T) (h : rg_F k tt V T B N C P LN KN own S a_contents a_contentRevision a_kind a_constants a_inputs a_input a_taskRevision a_hasLast a_lastConstant a_lastInputs a_lastValue a_seenRevision a_outputs a_outputRevision a_newest a_older a_hash a_keptConstant a_keptInputs a_keptValue a_outcome b_last b_stored b_store) : bg_lst (a_hasLast t) (a_lastConstant t) (LN t) (fun i => a_lastValue (t * 3 + i)) (a_constants t) (C t) (fun i => bg_vl a_contents b_now (P (t * 3 + i))) ↔ (a_hasLast t ≠ 0 ∧ bg_E5 (fun i => b_last (t * 5 + i)) (bg_rc (a_constants t) (C t) (fun i => bg_vl a_contents b_now (P (t * 3 + i))))) := by
  obtain ⟨hA, hB, hC, hL, hD, hU, hN, hK, hM⟩ := h
  have h12 := hA.1
  constructor
  · intro z
    exact ⟨z.1, bg_E5t (hL t (by omega) z.1).1 ((bg_rcI (hC.2.2.2 t) (hA.2.2.1 t)).mpr z.2)⟩
  · intro z
    exact ⟨z.1, (bg_rcI (hC.2.2.2 t) (hA.2.2.1 t)).mp (bg_E5t (bg_E5s (hL t (by omega) z.1).1) z.2)⟩
theorem rh_ins {tt : Nat} (ht : t < T) (h : rg_F k tt V T B N C P LN KN own S a_contents a_contentRevision a_kind a_constants a_inputs a_input a_taskRevision a_hasLast a_lastConstant a_lastInputs a_lastValue a_seenRevision a_outputs a_outputRevision a_newest a_older a_hash a_keptConstant a_keptInputs a_keptValue a_outcome b_last b_stored b_store) : bg_ins N own a_keptConstant KN a_keptValue (a_constants t) (C t) t (fun i => bg_vl a_contents b_now (P (t * 3 + i))) ↔ bg_sto (S t) b_store t (bg_rc (a_constants t) (C t) (fun i => bg_vl a_contents b_now (P (t * 3 + i)))) := by
  obtain ⟨hA, hB, hC, hL, hD, hU, hN, hK, hM⟩ := h
  have h12 := hA.1
  rw [← hM t (by omega)]
  constructor
  · intro ⟨r, r1, r2, r3⟩
    exact ⟨r, r1, r2, (bg_rcI (hK.2.2.2.1 r) (hA.2.2.1 t)).mpr r3⟩
  · intro ⟨r, r1, r2, r3⟩
    exact ⟨r, r1, r2, (bg_rcI (hK.2.2.2.1 r) (hA.2.2.1 t)).mp r3⟩
theorem rh_unt (ht : t < T) (hv : ∀ i, i < C t → bg_vl a_contents a_outputs (P (t * 3 + i)) = bg_vl a_contents b_now (P (t * 3 + i))) (h : rg_F k t V T B N C P LN KN own S a_contents a_contentRevision a_kind a_constants a_inputs a_input a_taskRevision a_hasLast a_lastConstant a_lastInputs a_lastValue a_seenRevision a_outputs a_outputRevision a_newest a_older a_hash a_keptConstant a_keptInputs a_keptValue a_outcome b_last b_stored b_store) (u1 : a_hasLast t ≠ 0) (u2 : a_taskRevision t ≤ a_seenRevision t) (u3 : ∀ i, i < C t → bg_vl a_contentRevision a_outputRevision (P (t * 3 + i)) ≤ a_seenRevision t) : bg_lst (a_hasLast t) (a_lastConstant t) (LN t) (fun i => a_lastValue (t * 3 + i)) (a_constants t) (C t) (fun i => bg_vl a_contents b_now (P (t * 3 + i))) := by
  obtain ⟨hA, hB, hC, hL, hD, hU, hN, hK, hM⟩ := h
  have h12 := hA.1
  obtain ⟨g1, g2, g3⟩ := hU t (by omega) u1 u2
  exact ⟨u1, g1, g2, fun i hi => (g3 i hi (u3 i hi)).trans (hv i hi)⟩
end
end
section
/-! the relation -/
def i_Rel (k : Nat) (u : SX) (v : SY) : Prop := ∃ (V T B N : Nat) (C P LN KN own S : Nat → Nat) (f_total : Int32) (a_contents a_contentRevision a_kind a_constants a_inputs a_input a_taskRevision a_hasLast a_lastConstant a_lastInputs a_lastValue a_seenRevision a_outputs a_outputRevision a_newest a_older a_hash a_keptConstant a_keptInputs a_keptValue a_value a_outcome a_now b_last b_stored b_store b_now : Nat → Int32), u = ((nI V), (nI T), (nI B), (nI N), f_total, a_contents, a_contentRevision, a_kind, a_constants, a_inputs, a_input, a_taskRevision, a_hasLast, a_lastConstant, a_lastInputs, a_lastValue, a_seenRevision, a_outputs, a_outputRevision, a_newest, a_older, a_hash, a_keptConstant, a_keptInputs, a_keptValue, a_value, a_outcome, a_now) ∧ v = ((nI T), (nI B), f_total, a_contents, a_kind, a_constants, a_inputs, a_input, a_outputs, a_outcome, a_hasLast, b_last, b_stored, b_store, b_now) ∧ rg_F k 12 V T B N C P LN KN own S a_contents a_contentRevision a_kind a_constants a_inputs a_input a_taskRevision a_hasLast a_lastConstant a_lastInputs a_lastValue a_seenRevision a_outputs a_outputRevision a_newest a_older a_hash a_keptConstant a_keptInputs a_keptValue a_outcome b_last b_stored b_store
theorem zz_el {k : Nat} {u : SX} {v : SY} {Q : SX → SY → Prop} (I : i_Rel k u v) (h : ∀ (V T B N : Nat) (C P LN KN own S : Nat → Nat) (f_total : Int32) (a_contents a_contentRevision a_kind a_constants a_inputs a_input a_taskRevision a_hasLast a_lastConstant a_lastInputs a_lastValue a_seenRevision a_outputs a_outputRevision a_newest a_older a_hash a_keptConstant a_keptInputs a_keptValue a_value a_outcome a_now b_last b_stored b_store b_now : Nat → Int32), rg_F k 12 V T B N C P LN KN own S a_contents a_contentRevision a_kind a_constants a_inputs a_input a_taskRevision a_hasLast a_lastConstant a_lastInputs a_lastValue a_seenRevision a_outputs a_outputRevision a_newest a_older a_hash a_keptConstant a_keptInputs a_keptValue a_outcome b_last b_stored b_store → Q ((nI V), (nI T), (nI B), (nI N), f_total, a_contents, a_contentRevision, a_kind, a_constants, a_inputs, a_input, a_taskRevision, a_hasLast, a_lastConstant, a_lastInputs, a_lastValue, a_seenRevision, a_outputs, a_outputRevision, a_newest, a_older, a_hash, a_keptConstant, a_keptInputs, a_keptValue, a_value, a_outcome, a_now) ((nI T), (nI B), f_total, a_contents, a_kind, a_constants, a_inputs, a_input, a_outputs, a_outcome, a_hasLast, b_last, b_stored, b_store, b_now)) : Q u v :=
  Exists.elim I (fun V h0 => Exists.elim h0 (fun T h1 => Exists.elim h1 (fun B h2 => Exists.elim h2 (fun N h3 => Exists.elim h3 (fun C h4 => Exists.elim h4 (fun P h5 => Exists.elim h5 (fun LN h6 => Exists.elim h6 (fun KN h7 => Exists.elim h7 (fun own h8 => Exists.elim h8 (fun S h9 => Exists.elim h9 (fun f_total h10 => Exists.elim h10 (fun a_contents h11 => Exists.elim h11 (fun a_contentRevision h12 => Exists.elim h12 (fun a_kind h13 => Exists.elim h13 (fun a_constants h14 => Exists.elim h14 (fun a_inputs h15 => Exists.elim h15 (fun a_input h16 => Exists.elim h16 (fun a_taskRevision h17 => Exists.elim h17 (fun a_hasLast h18 => Exists.elim h18 (fun a_lastConstant h19 => Exists.elim h19 (fun a_lastInputs h20 => Exists.elim h20 (fun a_lastValue h21 => Exists.elim h21 (fun a_seenRevision h22 => Exists.elim h22 (fun a_outputs h23 => Exists.elim h23 (fun a_outputRevision h24 => Exists.elim h24 (fun a_newest h25 => Exists.elim h25 (fun a_older h26 => Exists.elim h26 (fun a_hash h27 => Exists.elim h27 (fun a_keptConstant h28 => Exists.elim h28 (fun a_keptInputs h29 => Exists.elim h29 (fun a_keptValue h30 => Exists.elim h30 (fun a_value h31 => Exists.elim h31 (fun a_outcome h32 => Exists.elim h32 (fun a_now h33 => Exists.elim h33 (fun b_last h34 => Exists.elim h34 (fun b_stored h35 => Exists.elim h35 (fun b_store h36 => Exists.elim h36 (fun b_now h37 => by obtain ⟨hu, hv, hF⟩ := h37; rw [hu, hv]; exact h V T B N C P LN KN own S f_total a_contents a_contentRevision a_kind a_constants a_inputs a_input a_taskRevision a_hasLast a_lastConstant a_lastInputs a_lastValue a_seenRevision a_outputs a_outputRevision a_newest a_older a_hash a_keptConstant a_keptInputs a_keptValue a_value a_outcome a_now b_last b_stored b_store b_now hF))))))))))))))))))))))))))))))))))))))
section
variable {k V T B N : Nat} {C P LN KN own S : Nat → Nat} {f_total : Int32}
variable {a_contents a_contentRevision a_kind a_constants a_inputs a_input a_taskRevision a_hasLast a_lastConstant a_lastInputs a_lastValue a_seenRevision a_outputs a_outputRevision a_newest a_older a_hash a_keptConstant a_keptInputs a_keptValue a_value a_outcome a_now b_last b_stored b_store b_now : Nat → Int32}
theorem zz_in (hF : rg_F k 12 V T B N C P LN KN own S a_contents a_contentRevision a_kind a_constants a_inputs a_input a_taskRevision a_hasLast a_lastConstant a_lastInputs a_lastValue a_seenRevision a_outputs a_outputRevision a_newest a_older a_hash a_keptConstant a_keptInputs a_keptValue a_outcome b_last b_stored b_store) : i_Rel k ((nI V), (nI T), (nI B), (nI N), f_total, a_contents, a_contentRevision, a_kind, a_constants, a_inputs, a_input, a_taskRevision, a_hasLast, a_lastConstant, a_lastInputs, a_lastValue, a_seenRevision, a_outputs, a_outputRevision, a_newest, a_older, a_hash, a_keptConstant, a_keptInputs, a_keptValue, a_value, a_outcome, a_now) ((nI T), (nI B), f_total, a_contents, a_kind, a_constants, a_inputs, a_input, a_outputs, a_outcome, a_hasLast, b_last, b_stored, b_store, b_now) :=
  ⟨V, T, B, N, C, P, LN, KN, own, S, f_total, a_contents, a_contentRevision, a_kind, a_constants, a_inputs, a_input, a_taskRevision, a_hasLast, a_lastConstant, a_lastInputs, a_lastValue, a_seenRevision, a_outputs, a_outputRevision, a_newest, a_older, a_hash, a_keptConstant, a_keptInputs, a_keptValue, a_value, a_outcome, a_now, b_last, b_stored, b_store, b_now, rfl, rfl, hF⟩
theorem zz_up {k' t t' : Nat} (h : rg_F k t V T B N C P LN KN own S a_contents a_contentRevision a_kind a_constants a_inputs a_input a_taskRevision a_hasLast a_lastConstant a_lastInputs a_lastValue a_seenRevision a_outputs a_outputRevision a_newest a_older a_hash a_keptConstant a_keptInputs a_keptValue a_outcome b_last b_stored b_store) (hk : k ≤ k') (ht : t ≤ t') : rg_F k' t' V T B N C P LN KN own S a_contents a_contentRevision a_kind a_constants a_inputs a_input a_taskRevision a_hasLast a_lastConstant a_lastInputs a_lastValue a_seenRevision a_outputs a_outputRevision a_newest a_older a_hash a_keptConstant a_keptInputs a_keptValue a_outcome b_last b_stored b_store := by
  obtain ⟨hA, hB, hC, hL, hD, hU, hN, hK, hM⟩ := h
  exact ⟨hA, hB, hC, hL, ⟨Nat.le_trans hD.1 hk, hD.2.1, fun j h1 h2 => hD.2.2 j (by omega) h2⟩, hU, ⟨hN.1, by have := hN.2.1; omega, hN.2.2.1, hN.2.2.2.1, fun j h1 h2 => hN.2.2.2.2 j (by omega) h2⟩, hK, hM⟩
end
theorem i_up {k : Nat} {u : SX} {v : SY} (h : i_Rel k u v) : i_Rel (k + 3) u v := by
  refine zz_el (Q := fun u v => i_Rel (k + 3) u v) h ?_
  intro V T B N C P LN KN own S f_total a_contents a_contentRevision a_kind a_constants a_inputs a_input a_taskRevision a_hasLast a_lastConstant a_lastInputs a_lastValue a_seenRevision a_outputs a_outputRevision a_newest a_older a_hash a_keptConstant a_keptInputs a_keptValue a_value a_outcome a_now b_last b_stored b_store b_now hF
  exact zz_in (zz_up hF (by omega) (Nat.le_refl 12))
end
section
/-! constructors, definitions -/
section
variable {f_revision f_tasks f_builds f_records f_total f_done : Int32} {k V T B N t q : Nat} {C P LN KN own S : Nat → Nat}
variable {a_contents a_contentRevision a_kind a_constants a_inputs a_input a_taskRevision a_hasLast a_lastConstant a_lastInputs a_lastValue a_seenRevision a_outputs a_outputRevision a_newest a_older a_hash a_keptConstant a_keptInputs a_keptValue a_value a_outcome a_now b_last b_stored b_store b_now : Nat → Int32}
theorem sa_init {post : SX → Prop} (hp : post (f_revision, f_tasks, f_builds, f_records, f_total, a_contents, a_contentRevision, a_kind, a_constants, a_inputs, a_input, a_taskRevision, a_hasLast, a_lastConstant, a_lastInputs, a_lastValue, a_seenRevision, a_outputs, a_outputRevision, bg_cp a_newest 0 (fun _ => -1) 12, a_older, a_hash, a_keptConstant, a_keptInputs, a_keptValue, a_value, a_outcome, a_now)) : ∀ d t n, t + d = 12 → d < n → wX_init_194 post f_revision f_tasks f_builds f_records f_total n (nI t) a_contents a_contentRevision a_kind a_constants a_inputs a_input a_taskRevision a_hasLast a_lastConstant a_lastInputs a_lastValue a_seenRevision a_outputs a_outputRevision (bg_cp a_newest 0 (fun _ => -1) t) a_older a_hash a_keptConstant a_keptInputs a_keptValue a_value a_outcome a_now := by
  intro d
  induction d with
  | zero =>
    intro t n ht hn
    obtain ⟨m, rfl⟩ : ∃ m, n = m + 1 := ⟨n - 1, by omega⟩
    have e : t = 12 := by omega
    subst e
    exact br_t (by decide) hp
  | succ d ih =>
    intro t n ht hn
    obtain ⟨m, rfl⟩ : ∃ m, n = m + 1 := ⟨n - 1, by omega⟩
    refine br_f (nI_ge (b := 12) (by omega) (by omega)) (And.intro (vp_in_nI (by omega) (by omega)) (nm_r (e' := bg_cp a_newest 0 (fun _ => -1) (t + 1)) ?_ (nm_r (nI_1 t) (ih (t + 1) m (by omega) (by omega)))))
    exact bg_cps (by rw [nI_clamp (by omega), Nat.zero_add]) rfl
theorem sa_empty {post : SX → Prop} (hp : post (f_revision, f_tasks, f_builds, f_records, f_total, a_contents, a_contentRevision, a_kind, a_constants, a_inputs, a_input, a_taskRevision, a_hasLast, a_lastConstant, a_lastInputs, a_lastValue, a_seenRevision, a_outputs, a_outputRevision, bg_cp a_newest 0 (fun _ => -1) 12, a_older, a_hash, a_keptConstant, a_keptInputs, a_keptValue, a_value, a_outcome, a_now)) : ∀ d t n, t + d = 12 → d < n → wX_emptyStore_12 post f_revision f_tasks f_builds f_records f_total n (nI t) a_contents a_contentRevision a_kind a_constants a_inputs a_input a_taskRevision a_hasLast a_lastConstant a_lastInputs a_lastValue a_seenRevision a_outputs a_outputRevision (bg_cp a_newest 0 (fun _ => -1) t) a_older a_hash a_keptConstant a_keptInputs a_keptValue a_value a_outcome a_now := by
  intro d
  induction d with
  | zero =>
    intro t n ht hn
    obtain ⟨m, rfl⟩ : ∃ m, n = m + 1 := ⟨n - 1, by omega⟩
    have e : t = 12 := by omega
    subst e
    exact br_t (by decide) hp
  | succ d ih =>
    intro t n ht hn
    obtain ⟨m, rfl⟩ : ∃ m, n = m + 1 := ⟨n - 1, by omega⟩
    refine br_f (nI_ge (b := 12) (by omega) (by omega)) (And.intro (vp_in_nI (by omega) (by omega)) (nm_r (e' := bg_cp a_newest 0 (fun _ => -1) (t + 1)) ?_ (nm_r (nI_1 t) (ih (t + 1) m (by omega) (by omega)))))
    exact bg_cps (by rw [nI_clamp (by omega), Nat.zero_add]) rfl
theorem sa_emptyY {post : SY → Prop} (hp : post (f_tasks, f_builds, f_done, a_contents, a_kind, a_constants, a_inputs, a_input, a_outputs, a_outcome, a_hasLast, b_last, bg_cp b_stored 0 (fun _ => 0) 12, b_store, b_now)) : ∀ d t n, t + d = 12 → d < n → wY_emptyStore_7 post f_tasks f_builds f_done n (nI t) a_contents a_kind a_constants a_inputs a_input a_outputs a_outcome a_hasLast b_last (bg_cp b_stored 0 (fun _ => 0) t) b_store b_now := by
  intro d
  induction d with
  | zero =>
    intro t n ht hn
    obtain ⟨m, rfl⟩ : ∃ m, n = m + 1 := ⟨n - 1, by omega⟩
    have e : t = 12 := by omega
    subst e
    exact br_t (by decide) hp
  | succ d ih =>
    intro t n ht hn
    obtain ⟨m, rfl⟩ : ∃ m, n = m + 1 := ⟨n - 1, by omega⟩
    refine br_f (nI_ge (b := 12) (by omega) (by omega)) (And.intro (vp_in_nI (by omega) (by omega)) (nm_r (e' := bg_cp b_stored 0 (fun _ => 0) (t + 1)) ?_ (nm_r (nI_1 t) (ih (t + 1) m (by omega) (by omega)))))
    exact bg_cps (by rw [nI_clamp (by omega), Nat.zero_add]) rfl
theorem sa_bad (T : Nat) (hT : T ≤ 12) (x : Int32) : (∃ q, q < T ∧ x = nI q) ∨ x < 0 ∨ (¬ x < 0 ∧ ¬ x < nI T) := by
  rcases pk_ix x (n := T) (by omega) with h | h | ⟨j, h1, h2⟩
  · exact Or.inr (Or.inl h)
  · by_cases z : x < 0
    · exact Or.inr (Or.inl z)
    · exact Or.inr (Or.inr ⟨z, Int32.not_lt.mpr h⟩)
  · exact Or.inl ⟨j, h1, h2⟩
theorem sa_noT {post : Int32 → Prop} {x : Int32} (h : x < 0 ∨ (¬ x < 0 ∧ ¬ x < f_tasks)) (hp : post 1) : wpX_noTask post (f_revision, f_tasks, f_builds, f_records, f_total, a_contents, a_contentRevision, a_kind, a_constants, a_inputs, a_input, a_taskRevision, a_hasLast, a_lastConstant, a_lastInputs, a_lastValue, a_seenRevision, a_outputs, a_outputRevision, a_newest, a_older, a_hash, a_keptConstant, a_keptInputs, a_keptValue, a_value, a_outcome, a_now) x := by
  rcases h with h | ⟨h1, h2⟩
  · exact br_t h hp
  · exact br_f h1 (br_f h2 hp)
theorem sa_noTY {post : Int32 → Prop} {x : Int32} (h : x < 0 ∨ (¬ x < 0 ∧ ¬ x < f_tasks)) (hp : post 1) : wpY_bad post (f_tasks, f_builds, f_done, a_contents, a_kind, a_constants, a_inputs, a_input, a_outputs, a_outcome, a_hasLast, b_last, b_stored, b_store, b_now) x := by
  rcases h with h | ⟨h1, h2⟩
  · exact br_t h hp
  · exact br_f h1 (br_f h2 hp)
theorem sa_isT {post : Int32 → Prop} (hT : T ≤ 12) (hq : q < T) (hp : post 0) : wpX_noTask post (f_revision, nI T, f_builds, f_records, f_total, a_contents, a_contentRevision, a_kind, a_constants, a_inputs, a_input, a_taskRevision, a_hasLast, a_lastConstant, a_lastInputs, a_lastValue, a_seenRevision, a_outputs, a_outputRevision, a_newest, a_older, a_hash, a_keptConstant, a_keptInputs, a_keptValue, a_value, a_outcome, a_now) (nI q) :=
  br_f (nI_pos (by omega)) (br_t (nI_lt hq (by omega)) hp)
theorem sa_isTY {post : Int32 → Prop} (hT : T ≤ 12) (hq : q < T) (hp : post 0) : wpY_bad post (nI T, f_builds, f_done, a_contents, a_kind, a_constants, a_inputs, a_input, a_outputs, a_outcome, a_hasLast, b_last, b_stored, b_store, b_now) (nI q) :=
  br_f (nI_pos (by omega)) (br_t (nI_lt hq (by omega)) hp)
/-! revisions -/
theorem sa_nle {V : Nat} {s : Int32} (hV : V < 2000) (h : s ≤ nI V) : ¬ nI (V + 1) ≤ s := by
  intro z
  have := Int32.le_trans z h
  rw [nI_leI (by omega) (by omega)] at this
  omega
theorem sa_D {k' : Nat} (hV : V < 2000) (hk : V + 1 ≤ k') (h : rg_D k 12 V a_seenRevision) (t : Nat) : rg_D k' t (V + 1) a_seenRevision :=
  ⟨hk, fun j => Int32.le_trans (h.2.1 j) (nI_le (by omega) (by omega)), fun j _ _ => sa_nle hV (h.2.1 j)⟩
theorem sa_Uc {s : Nat} {x : Int32} {cr : Nat → Int32} (hs : s < 8) (hV : V < 2000) (hD : ∀ j, a_seenRevision j ≤ nI V) (c1 : a_contents s = x → cr = a_contentRevision) (c2 : ¬ a_contents s = x → cr = upd a_contentRevision s (nI (V + 1))) (h : rg_U C P a_contents a_contentRevision a_constants a_taskRevision a_hasLast a_lastConstant LN a_lastValue a_seenRevision a_outputs a_outputRevision) : rg_U C P (upd a_contents s x) cr a_constants a_taskRevision a_hasLast a_lastConstant LN a_lastValue a_seenRevision a_outputs a_outputRevision := by
  by_cases e : a_contents s = x
  · rw [c1 e, bg_ui e]; exact h
  · rw [c2 e]
    intro t ht hl htr
    obtain ⟨g1, g2, g3⟩ := h t ht hl htr
    refine ⟨g1, g2, fun i hi hc => ?_⟩
    by_cases h8 : P (t * 3 + i) < 8
    · rw [bg_vlL h8] at hc ⊢
      by_cases es : P (t * 3 + i) = s
      · rw [es, pk_us] at hc
        exact absurd hc (sa_nle hV (hD t))
      · rw [pk_un es] at hc ⊢
        have := g3 i hi
        rw [bg_vlL h8, bg_vlL h8] at this
        exact this hc
    · have := g3 i hi
      rw [bg_vlH (by omega), bg_vlH (by omega)] at this
      rw [bg_vlH (by omega)] at hc ⊢
      exact this hc
theorem sa_content {u : SX} {v : SY} (I : i_Rel k u v) (hk : k + 3 ≤ 1536) (v1 : Int32) (v2 : Int32) : wpX_content (fun r u' => wpY_content (fun r' v' => r' = r ∧ i_Rel (k + 3) u' v') v v1 v2) u v1 v2 := by
  refine zz_el (Q := fun u v => wpX_content (fun r u' => wpY_content (fun r' v' => r' = r ∧ i_Rel (k + 3) u' v') v v1 v2) u v1 v2) I ?_
  intro V T B N C P LN KN own S f_total a_contents a_contentRevision a_kind a_constants a_inputs a_input a_taskRevision a_hasLast a_lastConstant a_lastInputs a_lastValue a_seenRevision a_outputs a_outputRevision a_newest a_older a_hash a_keptConstant a_keptInputs a_keptValue a_value a_outcome a_now b_last b_stored b_store b_now hF
  rcases pk_ix v1 (n := 8) (by omega) with h | h | ⟨s, hs, rfl⟩
  · exact br_t h (br_t h ⟨rfl, zz_in (zz_up hF (by omega) (Nat.le_refl 12))⟩)
  · have h0 : ¬ v1 < 0 := fun z => absurd (Int32.lt_of_le_of_lt h z) (by decide)
    have h8 : ¬ v1 < 8 := Int32.not_lt.mpr h
    have h7 : ¬ v1 ≤ 7 := fun z => absurd (Int32.le_trans h z) (by decide)
    exact br_f h0 (br_f h8 (br_f h0 (br_f h7 ⟨rfl, zz_in (zz_up hF (by omega) (Nat.le_refl 12))⟩)))
  · have hin : vp_in (nI s) 8 := vp_in_nI hs (by omega)
    have h0 : ¬ nI s < 0 := nI_pos (by omega)
    have h8 : nI s < 8 := nI_lt (b := 8) hs (by omega)
    have h7 : nI s ≤ 7 := nI_le (b := 7) (by omega) (by omega)
    have ec : a_contents (nI s).toNatClampNeg = a_contents s := by rw [nI_clamp (by omega)]
    have eu : upd a_contents (nI s).toNatClampNeg v2 = upd a_contents s v2 := by rw [nI_clamp (by omega)]
    have er : upd a_contentRevision (nI s).toNatClampNeg (nI (V + 1)) = upd a_contentRevision s (nI (V + 1)) := by rw [nI_clamp (by omega)]
    obtain ⟨hA, hB, hC, hL, hD, hU, hN, hK, hM⟩ := hF
    have hV := hD.1
    have fin : ∀ cr, (a_contents s = v2 → cr = a_contentRevision) → (¬ a_contents s = v2 → cr = upd a_contentRevision s (nI (V + 1))) → wpY_content (fun r' v' => r' = a_contents s ∧ i_Rel (k + 3) (nI (V + 1), (nI T), (nI B), (nI N), f_total, upd a_contents s v2, cr, a_kind, a_constants, a_inputs, a_input, a_taskRevision, a_hasLast, a_lastConstant, a_lastInputs, a_lastValue, a_seenRevision, a_outputs, a_outputRevision, a_newest, a_older, a_hash, a_keptConstant, a_keptInputs, a_keptValue, a_value, a_outcome, a_now) v') ((nI T), (nI B), f_total, a_contents, a_kind, a_constants, a_inputs, a_input, a_outputs, a_outcome, a_hasLast, b_last, b_stored, b_store, b_now) (nI s) v2 := by
      intro cr c1 c2
      refine br_f h0 (br_t h7 (And.intro hin (nm_r ec (And.intro hin (nm_r eu (And.intro rfl (zz_in (C := C) (P := P) (LN := LN) (KN := KN) (own := own) (S := S) ?_)))))))
      exact ⟨hA, hB, hC, hL, sa_D (by omega) (by omega) hD 12, sa_Uc hs (by omega) hD.2.1 c1 c2 hU, hN, hK, hM⟩
    refine br_f h0 (br_t h8 (And.intro hin (nm_r ec (And.intro hin (nm_r eu (nm_r (nI_1 V) (br_c (fun e => ?_) (fun e => And.intro hin (nm_r er ?_)))))))))
    · exact fin _ (fun _ => rfl) (fun z => absurd e z)
    · exact fin _ (fun z => absurd z e) (fun _ => rfl)
end
end
section
/-! build -/
section
variable {f_tasks f_builds f_done x2 msk : Int32} {T t n : Nat} {C P S : Nat → Nat}
variable {a_contents a_kinds a_constants a_counts a_inputs a_outputs a_states a_hasLast a_last a_stored a_store a_now : Nat → Int32}
theorem yd_0 {post : Int32 → SY → Prop} (hT : T ≤ 12) (ht : t < T) (hm : ¬ bt msk t = true) (hY : wY_build_50 post x2 msk n (nI (t + 1)) (nI T) f_builds f_done a_contents a_kinds a_constants a_counts a_inputs a_outputs (upd a_states t 0) a_hasLast a_last a_stored a_store a_now) : wY_build_50 post x2 msk (n + 1) (nI t) (nI T) f_builds f_done a_contents a_kinds a_constants a_counts a_inputs a_outputs a_states a_hasLast a_last a_stored a_store a_now := by
  have hin : vp_in (nI t) 12 := vp_in_nI (by omega) (by omega)
  have e : upd a_states (nI t).toNatClampNeg 0 = upd a_states t 0 := by rw [nI_clamp (by omega)]
  exact br_f (nI_ge ht (by omega)) (And.intro hin (nm_r e (br_f (bg_bitF (by omega) hm) (nm_r (nI_1 t) hY))))
theorem yd_1 {post : Int32 → SY → Prop} (hT : T ≤ 12) (ht : t < T) (hC : ∀ j, a_counts j = nI (C j)) (hP : ∀ j, a_inputs j = nI (P j)) (h3 : C t ≤ 3) (hb : ∀ i, i < C t → P (t * 3 + i) < 8 + t) (hS : a_stored t = nI (S t)) (hS40 : S t < 40) (hm : bt msk t = true) (hl : (a_hasLast t ≠ 0 ∧ bg_E5 (fun i => a_last (t * 5 + i)) (bg_rc (a_constants t) (C t) (fun i => bg_vl a_contents a_now (P (t * 3 + i)))))) (hY : wY_build_50 post x2 msk n (nI (t + 1)) (nI T) f_builds f_done a_contents a_kinds a_constants a_counts a_inputs (upd a_outputs t (a_now t)) (upd a_states t 1) (upd a_hasLast t 1) (bg_cp a_last (t * 5) (bg_rc (a_constants t) (C t) (fun i => bg_vl a_contents a_now (P (t * 3 + i)))) 5) a_stored a_store a_now) : wY_build_50 post x2 msk (n + 1) (nI t) (nI T) f_builds f_done a_contents a_kinds a_constants a_counts a_inputs a_outputs a_states a_hasLast a_last a_stored a_store a_now := by
  have hin : vp_in (nI t) 12 := vp_in_nI (by omega) (by omega)
  have e : upd a_states (nI t).toNatClampNeg 0 = upd a_states t 0 := by rw [nI_clamp (by omega)]
  refine br_f (nI_ge ht (by omega)) (And.intro hin (nm_r e (br_t (bg_bitT (by omega) hm) ?_)))
  refine yc_handle (by omega) hC hP h3 hb hS hS40 (fun _ => ?_) (fun z => absurd hl z) (fun z => absurd hl z)
  rw [bg_uu]
  exact nm_r (nI_1 t) hY
theorem yd_2 {post : Int32 → SY → Prop} (hT : T ≤ 12) (ht : t < T) (hC : ∀ j, a_counts j = nI (C j)) (hP : ∀ j, a_inputs j = nI (P j)) (h3 : C t ≤ 3) (hb : ∀ i, i < C t → P (t * 3 + i) < 8 + t) (hS : a_stored t = nI (S t)) (hS40 : S t < 40) (hm : bt msk t = true) (hl : ¬ (a_hasLast t ≠ 0 ∧ bg_E5 (fun i => a_last (t * 5 + i)) (bg_rc (a_constants t) (C t) (fun i => bg_vl a_contents a_now (P (t * 3 + i)))))) (hi : bg_sto (S t) a_store t (bg_rc (a_constants t) (C t) (fun i => bg_vl a_contents a_now (P (t * 3 + i))))) (hY : wY_build_50 post x2 msk n (nI (t + 1)) (nI T) f_builds f_done a_contents a_kinds a_constants a_counts a_inputs (upd a_outputs t (a_now t)) (upd a_states t 2) (upd a_hasLast t 1) (bg_cp a_last (t * 5) (bg_rc (a_constants t) (C t) (fun i => bg_vl a_contents a_now (P (t * 3 + i)))) 5) a_stored a_store a_now) : wY_build_50 post x2 msk (n + 1) (nI t) (nI T) f_builds f_done a_contents a_kinds a_constants a_counts a_inputs a_outputs a_states a_hasLast a_last a_stored a_store a_now := by
  have hin : vp_in (nI t) 12 := vp_in_nI (by omega) (by omega)
  have e : upd a_states (nI t).toNatClampNeg 0 = upd a_states t 0 := by rw [nI_clamp (by omega)]
  refine br_f (nI_ge ht (by omega)) (And.intro hin (nm_r e (br_t (bg_bitT (by omega) hm) ?_)))
  refine yc_handle (by omega) hC hP h3 hb hS hS40 (fun z => absurd z hl) (fun _ _ => ?_) (fun _ z => absurd hi z)
  rw [bg_uu]
  exact nm_r (nI_1 t) hY
theorem yd_3 {post : Int32 → SY → Prop} (hT : T ≤ 12) (ht : t < T) (hC : ∀ j, a_counts j = nI (C j)) (hP : ∀ j, a_inputs j = nI (P j)) (h3 : C t ≤ 3) (hb : ∀ i, i < C t → P (t * 3 + i) < 8 + t) (hS : a_stored t = nI (S t)) (hS40 : S t < 40) (hm : bt msk t = true) (hl : ¬ (a_hasLast t ≠ 0 ∧ bg_E5 (fun i => a_last (t * 5 + i)) (bg_rc (a_constants t) (C t) (fun i => bg_vl a_contents a_now (P (t * 3 + i)))))) (hi : ¬ bg_sto (S t) a_store t (bg_rc (a_constants t) (C t) (fun i => bg_vl a_contents a_now (P (t * 3 + i))))) (hY : wY_build_50 post x2 msk n (nI (t + 1)) (nI T) f_builds (f_done + 1) a_contents a_kinds a_constants a_counts a_inputs (upd a_outputs t (a_now t)) (upd a_states t 3) (upd a_hasLast t 1) (bg_cp a_last (t * 5) (bg_rc (a_constants t) (C t) (fun i => bg_vl a_contents a_now (P (t * 3 + i)))) 5) (upd a_stored t (nI (S t + 1))) (bg_cp a_store ((t * 40 + S t) * 5) (bg_rc (a_constants t) (C t) (fun i => bg_vl a_contents a_now (P (t * 3 + i)))) 5) a_now) : wY_build_50 post x2 msk (n + 1) (nI t) (nI T) f_builds f_done a_contents a_kinds a_constants a_counts a_inputs a_outputs a_states a_hasLast a_last a_stored a_store a_now := by
  have hin : vp_in (nI t) 12 := vp_in_nI (by omega) (by omega)
  have e : upd a_states (nI t).toNatClampNeg 0 = upd a_states t 0 := by rw [nI_clamp (by omega)]
  refine br_f (nI_ge ht (by omega)) (And.intro hin (nm_r e (br_t (bg_bitT (by omega) hm) ?_)))
  refine yc_handle (by omega) hC hP h3 hb hS hS40 (fun z => absurd z hl) (fun _ z => absurd z hi) (fun _ _ => ?_)
  rw [bg_uu]
  exact nm_r (nI_1 t) hY
end
section
variable {f_revision f_tasks f_builds f_records f_total x2 x3 r : Int32} {kk V T B N t q : Nat} {C P LN KN own S : Nat → Nat}
variable {a_contents a_contentRevision a_kind a_constants a_inputs a_input a_taskRevision a_hasLast a_lastConstant a_lastInputs a_lastValue a_seenRevision a_outputs a_outputRevision a_newest a_older a_hash a_keptConstant a_keptInputs a_keptValue a_value a_outcome a_now b_last b_stored b_store b_now : Nat → Int32}
theorem vb_86 {post : Int32 → SX → Prop} {J : Int32 → Int32 → Int32 → Int32 → Int32 → Int32 → Int32 → (Nat → Int32) → (Nat → Int32) → (Nat → Int32) → (Nat → Int32) → (Nat → Int32) → (Nat → Int32) → (Nat → Int32) → (Nat → Int32) → (Nat → Int32) → (Nat → Int32) → (Nat → Int32) → (Nat → Int32) → (Nat → Int32) → (Nat → Int32) → (Nat → Int32) → (Nat → Int32) → (Nat → Int32) → (Nat → Int32) → (Nat → Int32) → (Nat → Int32) → (Nat → Int32) → (Nat → Int32) → (Nat → Int32) → Prop} (ht : t < 12) (h3 : r = 3 → J (x3 + 1) (nI (t + 1)) f_revision f_tasks f_builds f_records f_total a_contents a_contentRevision a_kind a_constants a_inputs a_input a_taskRevision a_hasLast a_lastConstant a_lastInputs a_lastValue a_seenRevision a_outputs a_outputRevision a_newest a_older a_hash a_keptConstant a_keptInputs a_keptValue a_value (upd a_outcome t r) a_now) (h0 : ¬ r = 3 → J x3 (nI (t + 1)) f_revision f_tasks f_builds f_records f_total a_contents a_contentRevision a_kind a_constants a_inputs a_input a_taskRevision a_hasLast a_lastConstant a_lastInputs a_lastValue a_seenRevision a_outputs a_outputRevision a_newest a_older a_hash a_keptConstant a_keptInputs a_keptValue a_value (upd a_outcome t r) a_now) : wX_build_86 post J x2 x3 (nI t) r (nI t) f_revision f_tasks f_builds f_records f_total a_contents a_contentRevision a_kind a_constants a_inputs a_input a_taskRevision a_hasLast a_lastConstant a_lastInputs a_lastValue a_seenRevision a_outputs a_outputRevision a_newest a_older a_hash a_keptConstant a_keptInputs a_keptValue a_value a_outcome a_now := by
  have hin : vp_in (nI t) 12 := vp_in_nI ht (by omega)
  have e1 : upd a_outcome (nI t).toNatClampNeg r = upd a_outcome t r := by rw [nI_clamp (by omega)]
  have e2 : upd a_outcome t r (nI t).toNatClampNeg = r := by rw [nI_clamp (by omega), pk_us]
  refine And.intro hin (nm_r e1 (And.intro hin (br_c (fun h => ?_) (fun h => ?_))))
  · rw [e2] at h
    exact nm_e (nm_r (nI_1 t) (h3 h))
  · rw [e2] at h
    exact nm_r (nI_1 t) (h0 h)
theorem vb_E {v0 : SY} {tot : Int32} (hq : q < T) (hF : rg_F kk 12 V T B N C P LN KN own S a_contents a_contentRevision a_kind a_constants a_inputs a_input a_taskRevision a_hasLast a_lastConstant a_lastInputs a_lastValue a_seenRevision a_outputs a_outputRevision a_newest a_older a_hash a_keptConstant a_keptInputs a_keptValue a_outcome b_last b_stored b_store) (hY : ∀ postY : Int32 → SY → Prop, postY x3 ((nI T), (nI B), tot + x3, a_contents, a_kind, a_constants, a_inputs, a_input, a_outputs, a_outcome, a_hasLast, b_last, b_stored, b_store, b_now) → wpY_build postY v0 (nI q)) : ∀ d t n, t + d = 12 → d < n → T ≤ t → wX_build_53 (fun r u' => wpY_build (fun r' v' => r' = r ∧ i_Rel kk u' v') v0 (nI q)) (bg_ms C P q) n x3 (nI t) (nI V) (nI T) (nI B) (nI N) tot a_contents a_contentRevision a_kind a_constants a_inputs a_input a_taskRevision a_hasLast a_lastConstant a_lastInputs a_lastValue a_seenRevision a_outputs a_outputRevision a_newest a_older a_hash a_keptConstant a_keptInputs a_keptValue a_value a_outcome a_now := by
  have h12 := hF.1.1
  intro d
  induction d with
  | zero =>
    intro t n ht hn hTt
    obtain ⟨m, rfl⟩ : ∃ m, n = m + 1 := ⟨n - 1, by omega⟩
    have e : t = 12 := by omega
    subst e
    exact br_t (by decide) (nm_e (hY _ ⟨rfl, zz_in hF⟩))
  | succ d ih =>
    intro t n ht hn hTt
    obtain ⟨m, rfl⟩ : ∃ m, n = m + 1 := ⟨n - 1, by omega⟩
    have K := ih (t + 1) m (by omega) (by omega) (by omega)
    have e0 : upd a_outcome t 0 = a_outcome := bg_ui (hF.2.1 t hTt)
    refine br_f (nI_ge (b := 12) (by omega) (by omega)) (br_f (bg_bitF (by omega) (bg_msB hF.1.2.2.2.2.2.1 (by omega) (by omega))) ?_)
    refine vb_86 (by omega) (fun z => absurd z (by decide)) (fun _ => ?_)
    rw [e0]
    exact K
theorem vb_L {v0 : SY} {tot : Int32} (hq : q < T) (hFX : bg_FX (bg_R a_kind a_constants C P a_contents) T b_now) : ∀ (d t n N : Nat) (LN KN own S : Nat → Nat) (x3 : Int32) (a_hasLast a_lastConstant a_lastInputs a_lastValue a_seenRevision a_outputs a_outputRevision a_newest a_older a_hash a_keptConstant a_keptInputs a_keptValue a_value a_outcome b_last b_stored b_store : Nat → Int32), t + d = T → 12 < n + t → rg_F kk t V T B N C P LN KN own S a_contents a_contentRevision a_kind a_constants a_inputs a_input a_taskRevision a_hasLast a_lastConstant a_lastInputs a_lastValue a_seenRevision a_outputs a_outputRevision a_newest a_older a_hash a_keptConstant a_keptInputs a_keptValue a_outcome b_last b_stored b_store → (∀ j, j < t → bt (bg_ms C P q) j = true → a_outputs j = b_now j) → (∀ postY : Int32 → SY → Prop, wY_build_50 postY tot (bg_ms C P q) (d + 1) (nI t) (nI T) (nI B) (tot + x3) a_contents a_kind a_constants a_inputs a_input a_outputs a_outcome a_hasLast b_last b_stored b_store b_now → wpY_build postY v0 (nI q)) → wX_build_53 (fun r u' => wpY_build (fun r' v' => r' = r ∧ i_Rel kk u' v') v0 (nI q)) (bg_ms C P q) n x3 (nI t) (nI V) (nI T) (nI B) (nI N) tot a_contents a_contentRevision a_kind a_constants a_inputs a_input a_taskRevision a_hasLast a_lastConstant a_lastInputs a_lastValue a_seenRevision a_outputs a_outputRevision a_newest a_older a_hash a_keptConstant a_keptInputs a_keptValue a_value a_outcome a_now := by
  intro d
  induction d with
  | zero =>
    intro t n N LN KN own S x3 a_hasLast a_lastConstant a_lastInputs a_lastValue a_seenRevision a_outputs a_outputRevision a_newest a_older a_hash a_keptConstant a_keptInputs a_keptValue a_value a_outcome b_last b_stored b_store ht hn hF hO hY
    have h12 := hF.1.1
    have e : t = T := by omega
    subst e
    refine vb_E (b_now := b_now) hq (zz_up hF (Nat.le_refl kk) h12) (fun postY hp => hY postY ?_) (12 - t) t n (by omega) (by omega) (Nat.le_refl t)
    refine br_t (nI_le (Nat.le_refl t) (by omega)) ?_
    have e : tot + x3 - tot = x3 := by rw [Int32.add_comm, Int32.add_sub_cancel]
    rw [e]
    exact hp
  | succ d ih =>
    intro t n N LN KN own S x3 a_hasLast a_lastConstant a_lastInputs a_lastValue a_seenRevision a_outputs a_outputRevision a_newest a_older a_hash a_keptConstant a_keptInputs a_keptValue a_value a_outcome b_last b_stored b_store ht hn hF hO hY
    have hT12 := hF.1.1
    obtain ⟨m, rfl⟩ : ∃ m, n = m + 1 := ⟨n - 1, by omega⟩
    obtain ⟨hA, hB, hC, hL, hD, hU, hN, hK, hM⟩ := id hF
    obtain ⟨h12, hAc, hA3, hA0, hAp, hAb, hAk⟩ := hA
    have htT : t < T := by omega
    refine br_f (nI_ge (b := 12) (by omega) (by omega)) ?_
    by_cases hm : bt (bg_ms C P q) t = true
    · refine br_t (bg_bitT (by omega) hm) ?_
      have hS : S t < B := hN.2.2.2.2 t (Nat.le_refl t) (by omega)
      have hB40 := hN.1
      have hNN := hN.2.1
      have hv : ∀ i, i < C t → bg_vl a_contents a_outputs (P (t * 3 + i)) = bg_vl a_contents b_now (P (t * 3 + i)) := by
        intro i hi
        have hbi := hAb t i hi
        by_cases h8 : P (t * 3 + i) < 8
        · rw [bg_vlL h8, bg_vlL h8]
        · rw [bg_vlH (by omega), bg_vlH (by omega)]
          exact hO _ (by omega) (bg_msC hAb (by omega) hi (by omega) hm)
      have hnow : b_now t = bg_rs (a_kind t) (a_constants t) (C t) (fun i => bg_vl a_contents b_now (P (t * 3 + i))) := hFX t htT
      have hl := rh_lst (b_now := b_now) htT hF
      have hi := rh_ins (b_now := b_now) htT hF
      have hOn : ∀ o : Nat → Int32, o t = b_now t → (∀ j, j ≠ t → o j = a_outputs j) → ∀ j, j < t + 1 → bt (bg_ms C P q) j = true → o j = b_now j := by
        intro o o1 o2 j hj hbj
        by_cases e : j = t
        · rw [e]; exact o1
        · rw [o2 j e]; exact hO j (by omega) hbj
      refine xb_handle (by omega) (by omega) hAc hAp (hA3 t) (hAb t) hC.2.2.1 (hC.2.2.2 t) hK.2.2.1 hK.2.2.2.1 (hK.1 t (by omega)) hK.2.1 hK.2.2.2.2 hv (rh_unt htT hv hF) (fun z val => ?_) (fun z y val orv o1 o2 => ?_) (fun z y val orv o1 o2 => ?_)
      · obtain ⟨e1, e6, F1⟩ := rh_F1 (r := 1) htT hv z hF
        refine vb_86 (by omega) (fun z => absurd z (by decide)) (fun _ => ?_)
        refine ih (t + 1) m _ _ _ _ _ _ _ _ _ _ _ _ _ _ _ _ _ _ _ _ _ _ _ _ (by omega) (by omega) F1 (hOn _ ?_ (fun _ _ => rfl)) (fun postY hp => hY postY ?_)
        · rw [hnow, ← e6, pk_us]
        · refine yd_1 h12 htT hAc hAp (hA3 t) (hAb t) (hN.2.2.1 t) (by omega) hm (hl.mp z) ?_
          rw [hnow, e1, e6]
          exact hp
      · have F2 := rh_F2 (r := 2) htT hv o1 o2 hF
        refine vb_86 (by omega) (fun z => absurd z (by decide)) (fun _ => ?_)
        refine ih (t + 1) m _ _ _ _ _ _ _ _ _ _ _ _ _ _ _ _ _ _ _ _ _ _ _ _ (by omega) (by omega) F2 (hOn _ ?_ (fun _ h => pk_un h)) (fun postY hp => hY postY ?_)
        · rw [hnow, pk_us]
        · refine yd_2 h12 htT hAc hAp (hA3 t) (hAb t) (hN.2.2.1 t) (by omega) hm (fun w => z (hl.mpr w)) (hi.mp y) ?_
          rw [hnow]
          exact hp
      · have F3 := rh_F3 (r := 3) htT hv o1 o2 hF
        refine vb_86 (by omega) (fun _ => ?_) (fun z => absurd rfl z)
        refine ih (t + 1) m _ _ _ _ _ _ _ _ _ _ _ _ _ _ _ _ _ _ _ _ _ _ _ _ (by omega) (by omega) F3 (hOn _ ?_ (fun _ h => pk_un h)) (fun postY hp => hY postY ?_)
        · rw [hnow, pk_us]
        · refine yd_3 h12 htT hAc hAp (hA3 t) (hAb t) (hN.2.2.1 t) (by omega) hm (fun w => z (hl.mpr w)) (fun w => y (hi.mpr w)) ?_
          rw [hnow, Int32.add_assoc]
          exact hp
    · refine br_f (bg_bitF (by omega) hm) ?_
      refine vb_86 (by omega) (fun z => absurd z (by decide)) (fun _ => ?_)
      have F0 : rg_F kk (t + 1) V T B N C P LN KN own S a_contents a_contentRevision a_kind a_constants a_inputs a_input a_taskRevision a_hasLast a_lastConstant a_lastInputs a_lastValue a_seenRevision a_outputs a_outputRevision a_newest a_older a_hash a_keptConstant a_keptInputs a_keptValue (upd a_outcome t 0) b_last b_stored b_store := by
        obtain ⟨qA, qB, qC, qL, qD, qU, qN, qK, qM⟩ := zz_up hF (Nat.le_refl kk) (Nat.le_succ t)
        exact ⟨qA, rh_B htT qB, qC, qL, qD, qU, qN, qK, qM⟩
      refine ih (t + 1) m _ _ _ _ _ _ _ _ _ _ _ _ _ _ _ _ _ _ _ _ _ _ _ _ (by omega) (by omega) F0 (fun j hj hbj => ?_) (fun postY hp => hY postY (yd_0 h12 htT hm hp))
      by_cases e : j = t
      · rw [e] at hbj
        exact absurd hbj hm
      · exact hO j (by omega) hbj
end
theorem i_vc_build {k : Nat} {u : SX} {v : SY} (I : i_Rel k u v) (hk : k + 3 ≤ 1536) (v1 : Int32) : wpX_build (fun r u' => wpY_build (fun r' v' => r' = r ∧ i_Rel (k + 3) u' v') v v1) u v1 := by
  refine zz_el (Q := fun u v => wpX_build (fun r u' => wpY_build (fun r' v' => r' = r ∧ i_Rel (k + 3) u' v') v v1) u v1) I ?_
  intro V T B N C P LN KN own S f_total a_contents a_contentRevision a_kind a_constants a_inputs a_input a_taskRevision a_hasLast a_lastConstant a_lastInputs a_lastValue a_seenRevision a_outputs a_outputRevision a_newest a_older a_hash a_keptConstant a_keptInputs a_keptValue a_value a_outcome a_now b_last b_stored b_store b_now hF
  have hF3 := zz_up hF (k' := k + 3) (by omega) (Nat.le_refl 12)
  obtain ⟨hA, hB, hC, hL, hD, hU, hN, hK, hM⟩ := id hF
  obtain ⟨h12, hAc, hA3, hA0, hAp, hAb, hAk⟩ := id hA
  rcases sa_bad T h12 v1 with ⟨q, hq, rfl⟩ | hbad
  · unfold wpX_build
    refine sa_isT h12 hq (br_t rfl ?_)
    have hV := hD.1
    by_cases hB40 : B = 40
    · subst hB40
      refine br_f (by decide) ?_
      unfold wpY_build
      exact sa_isTY h12 hq (br_t rfl (br_t rfl ⟨rfl, zz_in hF3⟩))
    · have hBl := hN.1
      refine br_t (nI_lt (b := 40) (by omega) (by omega)) (nm_r (nI_1 B) (nm_r (nI_1 V) ?_))
      refine xa_neededSet (by omega) hAc hAp hA3 hAb ⟨13, ?_⟩
      have hl : bg_Lc (bg_R a_kind a_constants C P a_contents) T := fun o o' t _ h => bg_RC (hAb t) h
      have hFX : bg_FX (bg_R a_kind a_constants C P a_contents) T (bg_nw (bg_R a_kind a_constants C P a_contents) b_now T) := bg_nwF hl
      have hF0 : rg_F (k + 3) 0 (V + 1) T (B + 1) N C P LN KN own S a_contents a_contentRevision a_kind a_constants a_inputs a_input a_taskRevision a_hasLast a_lastConstant a_lastInputs a_lastValue a_seenRevision a_outputs a_outputRevision a_newest a_older a_hash a_keptConstant a_keptInputs a_keptValue a_outcome b_last b_stored b_store := by
        refine ⟨hA, hB, hC, hL, sa_D (by omega) (by omega) hD 0, hU, ⟨by omega, by have := hN.2.1; omega, hN.2.2.1, fun j hj => Nat.le_succ_of_le (hN.2.2.2.1 j hj), fun j _ hj => Nat.lt_succ_of_le (hN.2.2.2.1 j hj)⟩, hK, hM⟩
      refine vb_L (v0 := ((nI T), (nI B), f_total, a_contents, a_kind, a_constants, a_inputs, a_input, a_outputs, a_outcome, a_hasLast, b_last, b_stored, b_store, b_now)) (tot := f_total) (b_now := bg_nw (bg_R a_kind a_constants C P a_contents) b_now T) hq hFX T 0 13 N LN KN own S 0 a_hasLast a_lastConstant a_lastInputs a_lastValue a_seenRevision a_outputs a_outputRevision a_newest a_older a_hash a_keptConstant a_keptInputs a_keptValue a_value a_outcome b_last b_stored b_store (by omega) (by omega) hF0 (fun j hj => absurd hj (by omega)) (fun postY hp => ?_)
      rw [Int32.add_zero] at hp
      unfold wpY_build
      refine sa_isTY h12 hq (br_t rfl (br_f ?_ (nm_r (nI_1 B) ?_)))
      · intro z
        exact hB40 ((nI_eq (b := 40) (by omega) (by omega)).mp z)
      · refine yb_workOutD h12 hAc hAp hA3 hAb hAk ?_
        exact ya_needs (by omega) hAc hAp hA3 hAb ⟨T + 1, hp⟩
  · unfold wpX_build
    refine sa_noT hbad (br_f (by decide) ?_)
    unfold wpY_build
    exact sa_noTY hbad (br_f (by decide) ⟨rfl, zz_in hF3⟩)
end
section
/-! the other methods -/
theorem i_vc0 : wpX_init (fun u => wpY_init (fun v => i_Rel 0 u v)) := by
  refine ⟨13, ?_⟩
  have hF : rg_F 0 12 0 0 0 0 (fun _ => 0) (fun _ => 0) (fun _ => 0) (fun _ => 0) (fun _ => 0) (fun _ => 0) (fun _ => 0) (fun _ => 0) (fun _ => 0) (fun _ => 0) (fun _ => 0) (fun _ => 0) (fun _ => 0) (fun _ => 0) (fun _ => 0) (fun _ => 0) (fun _ => 0) (fun _ => 0) (fun _ => 0) (fun _ => 0) (bg_cp (fun _ => 0) 0 (fun _ => -1) 12) (fun _ => 0) (fun _ => 0) (fun _ => 0) (fun _ => 0) (fun _ => 0) (fun _ => 0) (fun _ => 0) (fun _ => 0) (fun _ => 0) := by
    refine ⟨⟨by omega, fun _ => rfl, fun _ => Nat.zero_le _, fun _ _ => rfl, fun _ => rfl, fun t i h => absurd h (Nat.not_lt_zero _), fun _ => Or.inl rfl⟩, fun _ _ => rfl, ⟨fun _ => Or.inl rfl, fun _ _ => rfl, fun _ => rfl, fun _ => Nat.zero_le _⟩, fun t _ h => absurd rfl h, ⟨by omega, fun _ => Int32.le_refl _, fun j h1 h2 => absurd h1 (by omega)⟩, fun t _ h => absurd rfl h, ⟨by omega, by omega, fun _ => rfl, fun _ _ => Nat.zero_le _, fun j h1 h2 => absurd h1 (by omega)⟩, ⟨fun t ht => bg_cpz ht, fun r hr => absurd hr (by omega), fun _ => rfl, fun _ => Nat.zero_le _, fun r hr => absurd hr (by omega)⟩, fun t ht R => ⟨fun z => ?_, fun z => ?_⟩⟩
    · obtain ⟨r, r1, _⟩ := z
      exact absurd r1 (Nat.not_lt_zero _)
    · obtain ⟨r, r1, _⟩ := z
      exact absurd r1 (Nat.not_lt_zero _)
  have K := sa_init (post := fun u => wpY_init (fun v => i_Rel 0 u v)) (f_revision := 0) (f_tasks := 0) (f_builds := 0) (f_records := 0) (f_total := 0) (a_contents := fun _ => 0) (a_contentRevision := fun _ => 0) (a_kind := fun _ => 0) (a_constants := fun _ => 0) (a_inputs := fun _ => 0) (a_input := fun _ => 0) (a_taskRevision := fun _ => 0) (a_hasLast := fun _ => 0) (a_lastConstant := fun _ => 0) (a_lastInputs := fun _ => 0) (a_lastValue := fun _ => 0) (a_seenRevision := fun _ => 0) (a_outputs := fun _ => 0) (a_outputRevision := fun _ => 0) (a_newest := fun _ => 0) (a_older := fun _ => 0) (a_hash := fun _ => 0) (a_keptConstant := fun _ => 0) (a_keptInputs := fun _ => 0) (a_keptValue := fun _ => 0) (a_value := fun _ => 0) (a_outcome := fun _ => 0) (a_now := fun _ => 0) (zz_in hF) 12 0 13 (by omega) (by omega)
  rw [bg_cp0] at K
  exact K
theorem i_vc_content {k : Nat} {u : SX} {v : SY} (I : i_Rel k u v) (hk : k + 3 ≤ 1536) (v1 : Int32) (v2 : Int32) : wpX_content (fun r u' => wpY_content (fun r' v' => r' = r ∧ i_Rel (k + 3) u' v') v v1 v2) u v1 v2 := sa_content I hk v1 v2
theorem sc_kd (x : Int32) : x &&& 3 = 0 ∨ x &&& 3 = 1 ∨ x &&& 3 = 2 ∨ x &&& 3 = 3 := by
  obtain ⟨j, hj, e⟩ := pk_andE x (m := 3) 2 (by decide)
  rw [e]
  match j, hj with
  | 0, _ => exact Or.inl rfl
  | 1, _ => exact Or.inr (Or.inl rfl)
  | 2, _ => exact Or.inr (Or.inr (Or.inl rfl))
  | 3, _ => exact Or.inr (Or.inr (Or.inr rfl))
  | j + 4, h => exact absurd h (by omega)
theorem i_vc_task {k : Nat} {u : SX} {v : SY} (I : i_Rel k u v) (hk : k + 3 ≤ 1536) (v1 : Int32) (v2 : Int32) : wpX_task (fun r u' => wpY_task (fun r' v' => r' = r ∧ i_Rel (k + 3) u' v') v v1 v2) u v1 v2 := by
  refine zz_el (Q := fun u v => wpX_task (fun r u' => wpY_task (fun r' v' => r' = r ∧ i_Rel (k + 3) u' v') v v1 v2) u v1 v2) I ?_
  intro V T B N C P LN KN own S f_total a_contents a_contentRevision a_kind a_constants a_inputs a_input a_taskRevision a_hasLast a_lastConstant a_lastInputs a_lastValue a_seenRevision a_outputs a_outputRevision a_newest a_older a_hash a_keptConstant a_keptInputs a_keptValue a_value a_outcome a_now b_last b_stored b_store b_now hF
  have hF3 := zz_up hF (k' := k + 3) (by omega) (Nat.le_refl 12)
  obtain ⟨hA, hB, hC, hL, hD, hU, hN, hK, hM⟩ := id hF; obtain ⟨h12, hAc, hA3, hA0, hAp, hAb, hAk⟩ := id hA
  by_cases hT : T = 12
  · subst hT
    exact br_f (by decide) (br_t rfl ⟨rfl, zz_in hF3⟩)
  · have hin : vp_in (nI T) 12 := vp_in_nI (by omega) (by omega)
    have ek : upd a_kind (nI T).toNatClampNeg (v1 &&& 3) = upd a_kind T (v1 &&& 3) := by rw [nI_clamp (by omega)]
    have ec : upd a_constants (nI T).toNatClampNeg v2 = upd a_constants T v2 := by rw [nI_clamp (by omega)]
    have ei : upd a_inputs (nI T).toNatClampNeg 0 = a_inputs := by
      rw [nI_clamp (by omega)]
      refine bg_ui ?_
      rw [hAc T, hA0 T (Nat.le_refl T)]
      rfl
    have hne : ¬ nI T = 12 := fun z => hT ((nI_eq (b := 12) (by omega) (by omega)).mp z)
    refine br_t (nI_lt (b := 12) (by omega) (by omega)) (And.intro hin (nm_r ek (And.intro hin (nm_r ec (And.intro hin (nm_r ei (nm_r (nI_1 T) ?_)))))))
    refine br_f hne (And.intro hin (nm_r ek (And.intro hin (nm_r ec (nm_r (nI_1 T) (And.intro (nI_pred T) (zz_in (C := C) (P := P) (LN := LN) (KN := KN) (own := own) (S := S) ?_)))))))
    obtain ⟨qA, qB, qC, qL, qD, qU, qN, qK, qM⟩ := hF3
    refine ⟨⟨by omega, hAc, hA3, fun j hj => hA0 j (by omega), hAp, hAb, fun j => ?_⟩, fun j hj => hB j (by omega), ⟨hC.1, fun j hj => hC.2.1 j (by omega), hC.2.2⟩, fun t ht hl => ?_, qD, fun t ht hl htr => ?_, hN, hK, hM⟩
    · by_cases e : j = T
      · rw [e, pk_us]; exact sc_kd v1
      · rw [pk_un e]; exact hAk j
    · have e : t ≠ T := fun e => hl (by rw [e]; exact hC.2.1 T (Nat.le_refl T))
      rw [pk_un e]
      exact hL t ht hl
    · have e : t ≠ T := fun e => hl (by rw [e]; exact hC.2.1 T (Nat.le_refl T))
      rw [pk_un e]
      exact hU t ht hl htr
theorem i_vc_constant {k : Nat} {u : SX} {v : SY} (I : i_Rel k u v) (hk : k + 3 ≤ 1536) (v1 : Int32) (v2 : Int32) : wpX_constant (fun r u' => wpY_constant (fun r' v' => r' = r ∧ i_Rel (k + 3) u' v') v v1 v2) u v1 v2 := by
  refine zz_el (Q := fun u v => wpX_constant (fun r u' => wpY_constant (fun r' v' => r' = r ∧ i_Rel (k + 3) u' v') v v1 v2) u v1 v2) I ?_
  intro V T B N C P LN KN own S f_total a_contents a_contentRevision a_kind a_constants a_inputs a_input a_taskRevision a_hasLast a_lastConstant a_lastInputs a_lastValue a_seenRevision a_outputs a_outputRevision a_newest a_older a_hash a_keptConstant a_keptInputs a_keptValue a_value a_outcome a_now b_last b_stored b_store b_now hF
  have hF3 := zz_up hF (k' := k + 3) (by omega) (Nat.le_refl 12)
  obtain ⟨hA, hB, hC, hL, hD, hU, hN, hK, hM⟩ := id hF; obtain ⟨h12, hAc, hA3, hA0, hAp, hAb, hAk⟩ := id hA
  have hV := hD.1
  unfold wpX_constant wpY_constant
  rcases sa_bad T h12 v1 with ⟨q, hq, rfl⟩ | hbad
  · have hin : vp_in (nI q) 12 := vp_in_nI (by omega) (by omega)
    have eo : a_constants (nI q).toNatClampNeg = a_constants q := by rw [nI_clamp (by omega)]
    have ec : upd a_constants (nI q).toNatClampNeg v2 = upd a_constants q v2 := by rw [nI_clamp (by omega)]
    have et : upd a_taskRevision (nI q).toNatClampNeg (nI (V + 1)) = upd a_taskRevision q (nI (V + 1)) := by rw [nI_clamp (by omega)]
    refine sa_isT h12 hq (br_t rfl (And.intro hin (nm_r eo (And.intro hin (nm_r ec (nm_r (nI_1 V) (And.intro hin (nm_r et ?_))))))))
    refine sa_isTY h12 hq (br_t rfl (And.intro hin (nm_r eo (And.intro hin (nm_r ec (And.intro rfl (zz_in (C := C) (P := P) (LN := LN) (KN := KN) (own := own) (S := S) ?_)))))))
    refine ⟨hA, hB, hC, hL, sa_D (by omega) (by omega) hD 12, fun t ht hl htr => ?_, hN, hK, hM⟩
    by_cases e : t = q
    · rw [e, pk_us] at htr
      exact absurd htr (sa_nle (by omega) (hD.2.1 q))
    · rw [pk_un e] at htr ⊢
      exact hU t ht hl htr
  · exact sa_noT hbad (br_f (by decide) (sa_noTY hbad (br_f (by decide) ⟨rfl, zz_in hF3⟩)))
theorem i_vc_input {k : Nat} {u : SX} {v : SY} (I : i_Rel k u v) (hk : k + 3 ≤ 1536) (v1 : Int32) (v2 : Int32) : wpX_input (fun r u' => wpY_input (fun r' v' => r' = r ∧ i_Rel (k + 3) u' v') v v1 v2) u v1 v2 := by
  refine zz_el (Q := fun u v => wpX_input (fun r u' => wpY_input (fun r' v' => r' = r ∧ i_Rel (k + 3) u' v') v v1 v2) u v1 v2) I ?_
  intro V T B N C P LN KN own S f_total a_contents a_contentRevision a_kind a_constants a_inputs a_input a_taskRevision a_hasLast a_lastConstant a_lastInputs a_lastValue a_seenRevision a_outputs a_outputRevision a_newest a_older a_hash a_keptConstant a_keptInputs a_keptValue a_value a_outcome a_now b_last b_stored b_store b_now hF
  have hF3 := zz_up hF (k' := k + 3) (by omega) (Nat.le_refl 12)
  obtain ⟨hA, hB, hC, hL, hD, hU, hN, hK, hM⟩ := id hF; obtain ⟨h12, hAc, hA3, hA0, hAp, hAb, hAk⟩ := id hA
  have hV := hD.1
  unfold wpX_input wpY_input
  rcases sa_bad T h12 v1 with ⟨q, hq, rfl⟩ | hbad
  · have hin : vp_in (nI q) 12 := vp_in_nI (by omega) (by omega)
    have e8 : 8 + nI q = nI (8 + q) := nI_add 8 q
    have hc : a_inputs (nI q).toNatClampNeg = nI (C q) := by rw [nI_clamp (by omega)]; exact hAc q
    refine sa_isT h12 hq (br_t rfl ?_)
    rw [e8]
    rcases pk_ix v2 (n := 8 + q) (by omega) with h | h | ⟨p, hp, rfl⟩
    · exact br_t h (sa_isTY h12 hq (br_t rfl (br_t h ⟨rfl, zz_in hF3⟩)))
    · have h0 : ¬ v2 < 0 := fun z => absurd (Int32.lt_of_le_of_lt h z) (nI_pos (by omega))
      refine br_f h0 (br_f (Int32.not_lt.mpr h) (sa_isTY h12 hq (br_t rfl (br_f h0 ?_))))
      exact br_f (Int32.not_lt.mpr h) ⟨rfl, zz_in hF3⟩
    · have h0 : ¬ nI p < 0 := nI_pos (by omega)
      have h1 : nI p < nI (8 + q) := nI_lt hp (by omega)
      have hC3 := hA3 q
      refine br_f h0 (br_t h1 (And.intro hin (pk_lt (C q) 3 (fun h3 => ?_) (fun h3 => ?_) hc rfl)))
      · have hi36 : vp_in (nI q * 3 + a_inputs (nI q).toNatClampNeg) 36 := by rw [hc, bg_i3]; exact vp_in_nI (by omega) (by omega)
        have e1 : upd a_input (nI q * 3 + a_inputs (nI q).toNatClampNeg).toNatClampNeg (nI p) = upd a_input (q * 3 + C q) (nI p) := by rw [hc, bg_i3, nI_clamp (by omega)]
        have e2 : upd a_inputs (nI q).toNatClampNeg (a_inputs (nI q).toNatClampNeg + 1) = upd a_inputs q (nI (C q + 1)) := by rw [hc, nI_clamp (by omega), nI_1]
        have et : upd a_taskRevision (nI q).toNatClampNeg (nI (V + 1)) = upd a_taskRevision q (nI (V + 1)) := by rw [nI_clamp (by omega)]
        refine And.intro hin (And.intro hi36 (nm_r e1 (And.intro hin (And.intro hin (nm_r e2 (nm_r (nI_1 V) (And.intro hin (nm_r et (And.intro hin ?_)))))))))
        refine sa_isTY h12 hq (br_t rfl (br_f h0 ?_))
        refine br_t h1 (And.intro hin (pk_eq (C q) 3 (fun z => absurd z (by omega)) (fun _ => ?_) hc rfl))
        refine And.intro hin (And.intro hi36 (nm_r e1 (And.intro hin (And.intro hin (nm_r e2 (And.intro hin (And.intro rfl (zz_in (C := bg_un C q (C q + 1)) (P := bg_un P (q * 3 + C q) p) (LN := LN) (KN := KN) (own := own) (S := S) ?_))))))))
        refine ⟨⟨h12, bg_nIu hAc q (C q + 1), fun j => ?_, fun j hj => ?_, bg_nIu hAp (q * 3 + C q) p, fun t i hi => ?_, hAk⟩, hB, hC, hL, sa_D (by omega) (by omega) hD 12, fun t ht hl htr => ?_, hN, hK, hM⟩
        · by_cases e : j = q
          · rw [e, bg_uns]; omega
          · rw [bg_unn e]; exact hA3 j
        · rw [bg_unn (by omega)]; exact hA0 j hj
        · by_cases e : t = q
          · rw [e, bg_uns] at hi
            rw [e]
            by_cases ei : i = C q
            · rw [ei, bg_uns]; exact hp
            · rw [bg_unn (by omega)]; exact hAb q i (by omega)
          · rw [bg_unn e] at hi
            have := hA3 t
            rw [bg_unn (by omega)]
            exact hAb t i hi
        · by_cases e : t = q
          · rw [e, pk_us] at htr
            exact absurd htr (sa_nle (by omega) (hD.2.1 q))
          · rw [pk_un e] at htr
            obtain ⟨g1, g2, g3⟩ := hU t ht hl htr
            rw [bg_unn e]
            refine ⟨g1, g2, fun i hi => ?_⟩
            have := hA3 t
            rw [bg_unn (by omega)]
            exact g3 i hi
      · refine sa_isTY h12 hq (br_t rfl (br_f h0 ?_))
        exact br_t h1 (And.intro hin (pk_eq (C q) 3 (fun z => ⟨rfl, zz_in hF3⟩) (fun z => absurd z (by omega)) hc rfl))
  · exact sa_noT hbad (br_f (by decide) (sa_noTY hbad (br_f (by decide) ⟨rfl, zz_in hF3⟩)))
theorem i_vc_clean {k : Nat} {u : SX} {v : SY} (I : i_Rel k u v) (hk : k + 3 ≤ 1536) (v1 : Int32) : wpX_clean (fun r u' => wpY_clean (fun r' v' => r' = r ∧ i_Rel (k + 3) u' v') v v1) u v1 := by
  refine zz_el (Q := fun u v => wpX_clean (fun r u' => wpY_clean (fun r' v' => r' = r ∧ i_Rel (k + 3) u' v') v v1) u v1) I ?_
  intro V T B N C P LN KN own S f_total a_contents a_contentRevision a_kind a_constants a_inputs a_input a_taskRevision a_hasLast a_lastConstant a_lastInputs a_lastValue a_seenRevision a_outputs a_outputRevision a_newest a_older a_hash a_keptConstant a_keptInputs a_keptValue a_value a_outcome a_now b_last b_stored b_store b_now hF
  have hF3 := zz_up hF (k' := k + 3) (by omega) (Nat.le_refl 12)
  obtain ⟨hA, hB, hC, hL, hD, hU, hN, hK, hM⟩ := id hF; obtain ⟨h12, hAc, hA3, hA0, hAp, hAb, hAk⟩ := id hA
  unfold wpX_clean wpY_clean
  rcases sa_bad T h12 v1 with ⟨q, hq, rfl⟩ | hbad
  · have hin : vp_in (nI q) 12 := vp_in_nI (by omega) (by omega)
    have ec : upd a_hasLast (nI q).toNatClampNeg (vp_nar .boolean 0) = upd a_hasLast q 0 := by rw [nI_clamp (by omega), bg_vb0]
    have J : i_Rel (k + 3) ((nI V), (nI T), (nI B), (nI N), f_total, a_contents, a_contentRevision, a_kind, a_constants, a_inputs, a_input, a_taskRevision, upd a_hasLast q 0, a_lastConstant, a_lastInputs, a_lastValue, a_seenRevision, a_outputs, a_outputRevision, a_newest, a_older, a_hash, a_keptConstant, a_keptInputs, a_keptValue, a_value, a_outcome, a_now) ((nI T), (nI B), f_total, a_contents, a_kind, a_constants, a_inputs, a_input, a_outputs, a_outcome, upd a_hasLast q 0, b_last, b_stored, b_store, b_now) := by
      obtain ⟨qA, qB, qC, qL, qD, qU, qN, qK, qM⟩ := hF3
      refine zz_in (C := C) (P := P) (LN := LN) (KN := KN) (own := own) (S := S) ⟨hA, hB, ⟨fun j => ?_, fun j hj => ?_, hC.2.2⟩, fun t ht hl => ?_, qD, fun t ht hl htr => ?_, hN, hK, hM⟩
      · by_cases e : j = q
        · rw [e, pk_us]; exact Or.inl rfl
        · rw [pk_un e]; exact hC.1 j
      · rw [pk_un (by omega)]; exact hC.2.1 j hj
      · by_cases e : t = q
        · rw [e, pk_us] at hl
          exact absurd rfl hl
        · rw [pk_un e] at hl
          exact hL t ht hl
      · by_cases e : t = q
        · rw [e, pk_us] at hl
          exact absurd rfl hl
        · rw [pk_un e] at hl
          exact hU t ht hl htr
    refine sa_isT h12 hq (br_t rfl (And.intro hin (br_c (fun h => And.intro hin (nm_r ec ?_)) (fun h => And.intro hin (nm_r ec ?_)))))
    · exact sa_isTY h12 hq (br_t rfl (And.intro hin (br_t h (And.intro hin (nm_r ec (And.intro rfl J))))))
    · exact sa_isTY h12 hq (br_t rfl (And.intro hin (br_f h (And.intro hin (nm_r ec (And.intro rfl J))))))
  · exact sa_noT hbad (br_f (by decide) (sa_noTY hbad (br_f (by decide) ⟨rfl, zz_in hF3⟩)))
theorem i_vc_emptyStore {k : Nat} {u : SX} {v : SY} (I : i_Rel k u v) (hk : k + 3 ≤ 1536) : wpX_emptyStore (fun u' => wpY_emptyStore (fun v' => i_Rel (k + 3) u' v') v) u := by
  refine zz_el (Q := fun u v => wpX_emptyStore (fun u' => wpY_emptyStore (fun v' => i_Rel (k + 3) u' v') v) u) I ?_
  intro V T B N C P LN KN own S f_total a_contents a_contentRevision a_kind a_constants a_inputs a_input a_taskRevision a_hasLast a_lastConstant a_lastInputs a_lastValue a_seenRevision a_outputs a_outputRevision a_newest a_older a_hash a_keptConstant a_keptInputs a_keptValue a_value a_outcome a_now b_last b_stored b_store b_now hF
  obtain ⟨hA, hB, hC, hL, hD, hU, hN, hK, hM⟩ := id hF; obtain ⟨h12, hAc, hA3, hA0, hAp, hAb, hAk⟩ := id hA
  have hY : wpY_emptyStore (fun v' => i_Rel (k + 3) ((nI V), (nI T), nI 0, nI 0, f_total, a_contents, a_contentRevision, a_kind, a_constants, a_inputs, a_input, a_taskRevision, a_hasLast, a_lastConstant, a_lastInputs, a_lastValue, a_seenRevision, a_outputs, a_outputRevision, bg_cp a_newest 0 (fun _ => -1) 12, a_older, a_hash, a_keptConstant, a_keptInputs, a_keptValue, a_value, a_outcome, a_now) v') ((nI T), (nI B), f_total, a_contents, a_kind, a_constants, a_inputs, a_input, a_outputs, a_outcome, a_hasLast, b_last, b_stored, b_store, b_now) := by
    refine ⟨13, ?_⟩
    have K : wY_emptyStore_7 (fun v' => i_Rel (k + 3) ((nI V), (nI T), nI 0, nI 0, f_total, a_contents, a_contentRevision, a_kind, a_constants, a_inputs, a_input, a_taskRevision, a_hasLast, a_lastConstant, a_lastInputs, a_lastValue, a_seenRevision, a_outputs, a_outputRevision, bg_cp a_newest 0 (fun _ => -1) 12, a_older, a_hash, a_keptConstant, a_keptInputs, a_keptValue, a_value, a_outcome, a_now) v') (nI T) (nI 0) f_total 13 (nI 0) a_contents a_kind a_constants a_inputs a_input a_outputs a_outcome a_hasLast b_last (bg_cp b_stored 0 (fun _ => 0) 0) b_store b_now := by
      refine sa_emptyY ?_ 12 0 13 (by omega) (by omega)
      refine zz_in (C := C) (P := P) (LN := LN) (KN := KN) (own := own) (S := fun j => if j < 12 then 0 else S j) ⟨hA, hB, hC, hL, ⟨by have := hD.1; omega, hD.2.1, hD.2.2⟩, hU, ⟨by omega, by omega, fun j => ?_, fun j hj => ?_, fun j h1 h2 => absurd h1 (by omega)⟩, ⟨fun t ht => bg_cpz ht, fun r hr => absurd hr (by omega), hK.2.2.1, hK.2.2.2.1, fun r hr => absurd hr (by omega)⟩, fun t ht R => ⟨fun z => ?_, fun z => ?_⟩⟩
      · by_cases h : j < 12
        · rw [bg_cpz h]
          show 0 = nI (if j < 12 then 0 else S j)
          rw [if_pos h]; rfl
        · rw [bg_cpo (by omega)]
          show b_stored j = nI (if j < 12 then 0 else S j)
          rw [if_neg h]; exact hN.2.2.1 j
      · show (if j < 12 then 0 else S j) ≤ 0
        rw [if_pos hj]
        exact Nat.le_refl 0
      · obtain ⟨r, r1, _⟩ := z
        exact absurd r1 (by omega)
      · obtain ⟨r, r1, _⟩ := z
        dsimp only at r1
        rw [if_pos ht] at r1
        exact absurd r1 (by omega)
    rw [bg_cp0] at K
    exact K
  refine ⟨13, ?_⟩
  have K : wX_emptyStore_12 (fun u' => wpY_emptyStore (fun v' => i_Rel (k + 3) u' v') ((nI T), (nI B), f_total, a_contents, a_kind, a_constants, a_inputs, a_input, a_outputs, a_outcome, a_hasLast, b_last, b_stored, b_store, b_now)) (nI V) (nI T) (nI 0) (nI 0) f_total 13 (nI 0) a_contents a_contentRevision a_kind a_constants a_inputs a_input a_taskRevision a_hasLast a_lastConstant a_lastInputs a_lastValue a_seenRevision a_outputs a_outputRevision (bg_cp a_newest 0 (fun _ => -1) 0) a_older a_hash a_keptConstant a_keptInputs a_keptValue a_value a_outcome a_now := sa_empty hY 12 0 13 (by omega) (by omega)
  rw [bg_cp0] at K
  exact K
theorem i_vc_status {k : Nat} {u : SX} {v : SY} (I : i_Rel k u v) (hk : k + 3 ≤ 1536) (v1 : Int32) : wpX_status (fun r => wpY_status (fun r' => r' = r ∧ i_Rel (k + 3) u v) v v1) u v1 := by
  refine zz_el (Q := fun u v => wpX_status (fun r => wpY_status (fun r' => r' = r ∧ i_Rel (k + 3) u v) v v1) u v1) I ?_
  intro V T B N C P LN KN own S f_total a_contents a_contentRevision a_kind a_constants a_inputs a_input a_taskRevision a_hasLast a_lastConstant a_lastInputs a_lastValue a_seenRevision a_outputs a_outputRevision a_newest a_older a_hash a_keptConstant a_keptInputs a_keptValue a_value a_outcome a_now b_last b_stored b_store b_now hF
  have J := zz_in (f_total := f_total) (a_value := a_value) (a_now := a_now) (b_now := b_now) (zz_up hF (k' := k + 3) (by omega) (Nat.le_refl 12))
  obtain ⟨hA, hB, hC, hL, hD, hU, hN, hK, hM⟩ := id hF; obtain ⟨h12, hAc, hA3, hA0, hAp, hAb, hAk⟩ := id hA
  unfold wpX_status wpY_status
  rcases sa_bad T h12 v1 with ⟨q, hq, rfl⟩ | hbad
  · have hin : vp_in (nI q) 12 := vp_in_nI (by omega) (by omega)
    exact sa_isT h12 hq (br_t rfl (And.intro hin (sa_isTY h12 hq (br_t rfl (And.intro hin ⟨rfl, J⟩)))))
  · exact sa_noT hbad (br_f (by decide) (sa_noTY hbad (br_f (by decide) ⟨rfl, J⟩)))
theorem i_vc_output {k : Nat} {u : SX} {v : SY} (I : i_Rel k u v) (hk : k + 3 ≤ 1536) (v1 : Int32) : wpX_output (fun r => wpY_output (fun r' => r' = r ∧ i_Rel (k + 3) u v) v v1) u v1 := by
  refine zz_el (Q := fun u v => wpX_output (fun r => wpY_output (fun r' => r' = r ∧ i_Rel (k + 3) u v) v v1) u v1) I ?_
  intro V T B N C P LN KN own S f_total a_contents a_contentRevision a_kind a_constants a_inputs a_input a_taskRevision a_hasLast a_lastConstant a_lastInputs a_lastValue a_seenRevision a_outputs a_outputRevision a_newest a_older a_hash a_keptConstant a_keptInputs a_keptValue a_value a_outcome a_now b_last b_stored b_store b_now hF
  have J := zz_in (f_total := f_total) (a_value := a_value) (a_now := a_now) (b_now := b_now) (zz_up hF (k' := k + 3) (by omega) (Nat.le_refl 12))
  obtain ⟨hA, hB, hC, hL, hD, hU, hN, hK, hM⟩ := id hF; obtain ⟨h12, hAc, hA3, hA0, hAp, hAb, hAk⟩ := id hA
  unfold wpX_output wpY_output
  rcases sa_bad T h12 v1 with ⟨q, hq, rfl⟩ | hbad
  · have hin : vp_in (nI q) 12 := vp_in_nI (by omega) (by omega)
    exact sa_isT h12 hq (br_t rfl (And.intro hin (sa_isTY h12 hq (br_t rfl (And.intro hin ⟨rfl, J⟩)))))
  · exact sa_noT hbad (br_f (by decide) (sa_noTY hbad (br_f (by decide) ⟨rfl, J⟩)))
theorem i_vc_executed {k : Nat} {u : SX} {v : SY} (I : i_Rel k u v) (hk : k + 3 ≤ 1536) : wpX_executed (fun r => wpY_executed (fun r' => r' = r ∧ i_Rel (k + 3) u v) v) u := by
  refine zz_el (Q := fun u v => wpX_executed (fun r => wpY_executed (fun r' => r' = r ∧ i_Rel (k + 3) u v) v) u) I ?_
  intro V T B N C P LN KN own S f_total a_contents a_contentRevision a_kind a_constants a_inputs a_input a_taskRevision a_hasLast a_lastConstant a_lastInputs a_lastValue a_seenRevision a_outputs a_outputRevision a_newest a_older a_hash a_keptConstant a_keptInputs a_keptValue a_value a_outcome a_now b_last b_stored b_store b_now hF
  exact ⟨rfl, zz_in (zz_up hF (k' := k + 3) (by omega) (Nat.le_refl 12))⟩
end
section
/-! questions that work the values out -/
noncomputable def bg_ct (G : Nat → Prop) : Nat → Int32
  | 0 => 0
  | t + 1 => @ite _ (G t) (Classical.propDecidable (G t)) (bg_ct G t + 1) (bg_ct G t)
theorem bg_ctT {G : Nat → Prop} {t : Nat} (h : G t) : bg_ct G (t + 1) = bg_ct G t + 1 := @if_pos _ (Classical.propDecidable (G t)) h _ _ _
theorem bg_ctF {G : Nat → Prop} {t : Nat} (h : ¬ G t) : bg_ct G (t + 1) = bg_ct G t := @if_neg _ (Classical.propDecidable (G t)) h _ _ _
theorem bg_ctC {G G' : Nat → Prop} : ∀ T, (∀ t, t < T → (G t ↔ G' t)) → bg_ct G T = bg_ct G' T := by
  intro T
  induction T with
  | zero => intro _; rfl
  | succ T ih =>
    intro h
    have e := ih (fun t ht => h t (by omega))
    by_cases g : G T
    · rw [bg_ctT g, bg_ctT ((h T (by omega)).mp g), e]
    · rw [bg_ctF g, bg_ctF (fun z => g ((h T (by omega)).mpr z)), e]
section
variable {f_revision f_tasks f_builds f_records f_total f_done s : Int32} {k V T B N t q : Nat} {C P LN KN own S : Nat → Nat}
variable {a_contents a_contentRevision a_kind a_constants a_inputs a_input a_taskRevision a_hasLast a_lastConstant a_lastInputs a_lastValue a_seenRevision a_outputs a_outputRevision a_newest a_older a_hash a_keptConstant a_keptInputs a_keptValue a_value a_outcome a_now b_last b_stored b_store b_now : Nat → Int32}
theorem qa_X {post : Int32 → Prop} (hp : post (bg_cn s 12)) : ∀ d t n, t + d = 12 → d < n → wX_needed_21 post s f_revision f_tasks f_builds f_records f_total a_contents a_contentRevision a_kind a_constants a_inputs a_input a_taskRevision a_hasLast a_lastConstant a_lastInputs a_lastValue a_seenRevision a_outputs a_outputRevision a_newest a_older a_hash a_keptConstant a_keptInputs a_keptValue a_value a_outcome a_now n (bg_cn s t) (nI t) := by
  intro d
  induction d with
  | zero =>
    intro t n ht hn
    obtain ⟨m, rfl⟩ : ∃ m, n = m + 1 := ⟨n - 1, by omega⟩
    have e : t = 12 := by omega
    subst e
    exact br_t (by decide) hp
  | succ d ih =>
    intro t n ht hn
    obtain ⟨m, rfl⟩ : ∃ m, n = m + 1 := ⟨n - 1, by omega⟩
    exact br_f (nI_ge (b := 12) (by omega) (by omega)) (nm_e (nm_r (nI_1 t) (ih (t + 1) m (by omega) (by omega))))
theorem qa_Y {post : Int32 → Prop} (hp : post (bg_cn s 12)) : ∀ d t n, t + d = 12 → d < n → wY_needed_21 post s f_tasks f_builds f_done a_contents a_kind a_constants a_inputs a_input a_outputs a_outcome a_hasLast b_last b_stored b_store b_now n (bg_cn s t) (nI t) := by
  intro d
  induction d with
  | zero =>
    intro t n ht hn
    obtain ⟨m, rfl⟩ : ∃ m, n = m + 1 := ⟨n - 1, by omega⟩
    have e : t = 12 := by omega
    subst e
    exact br_t (by decide) hp
  | succ d ih =>
    intro t n ht hn
    obtain ⟨m, rfl⟩ : ∃ m, n = m + 1 := ⟨n - 1, by omega⟩
    exact br_f (nI_ge (b := 12) (by omega) (by omega)) (nm_e (nm_r (nI_1 t) (ih (t + 1) m (by omega) (by omega))))
theorem qa_would {post : Int32 → SX → Prop} (ht : t < 12) (hC : ∀ j, a_inputs j = nI (C j)) (hP : ∀ j, a_input j = nI (P j)) (h3 : ∀ j, C j ≤ 3) (hb : ∀ t i, i < C t → P (t * 3 + i) < 8 + t) (hL : ∀ j, a_lastInputs j = nI (LN j)) (hL3 : ∀ j, LN j ≤ 3) (hN : N ≤ 480) (hK : ∀ j, a_keptInputs j = nI (KN j)) (hK3 : ∀ j, KN j ≤ 3) (hW : ∀ t, t < 12 → a_newest t = bg_pv own t N) (hO : ∀ r, r < N → a_older r = bg_pv own (own r) r) (hH : ∀ r, r < N → a_hash r = bg_hh (a_keptConstant r) (KN r) (fun i => a_keptValue (r * 3 + i))) (p1 : ¬ bg_lst (a_hasLast t) (a_lastConstant t) (LN t) (fun i => a_lastValue (t * 3 + i)) (a_constants t) (C t) (fun i => bg_vl a_contents a_now (P (t * 3 + i))) → ¬ bg_ins N own a_keptConstant KN a_keptValue (a_constants t) (C t) t (fun i => bg_vl a_contents a_now (P (t * 3 + i))) → ∀ val, post 1 (f_revision, f_tasks, f_builds, f_records, f_total, a_contents, a_contentRevision, a_kind, a_constants, a_inputs, a_input, a_taskRevision, a_hasLast, a_lastConstant, a_lastInputs, a_lastValue, a_seenRevision, a_outputs, a_outputRevision, a_newest, a_older, a_hash, a_keptConstant, a_keptInputs, a_keptValue, val, a_outcome, a_now)) (p0 : ¬ (¬ bg_lst (a_hasLast t) (a_lastConstant t) (LN t) (fun i => a_lastValue (t * 3 + i)) (a_constants t) (C t) (fun i => bg_vl a_contents a_now (P (t * 3 + i))) ∧ ¬ bg_ins N own a_keptConstant KN a_keptValue (a_constants t) (C t) t (fun i => bg_vl a_contents a_now (P (t * 3 + i)))) → ∀ val, post 0 (f_revision, f_tasks, f_builds, f_records, f_total, a_contents, a_contentRevision, a_kind, a_constants, a_inputs, a_input, a_taskRevision, a_hasLast, a_lastConstant, a_lastInputs, a_lastValue, a_seenRevision, a_outputs, a_outputRevision, a_newest, a_older, a_hash, a_keptConstant, a_keptInputs, a_keptValue, val, a_outcome, a_now)) : wpX_wouldExecute post (f_revision, f_tasks, f_builds, f_records, f_total, a_contents, a_contentRevision, a_kind, a_constants, a_inputs, a_input, a_taskRevision, a_hasLast, a_lastConstant, a_lastInputs, a_lastValue, a_seenRevision, a_outputs, a_outputRevision, a_newest, a_older, a_hash, a_keptConstant, a_keptInputs, a_keptValue, a_value, a_outcome, a_now) (nI t) := by
  unfold wpX_wouldExecute
  refine xa_loadRecord (o := a_now) ht hC hP (h3 t) (hb t) (fun z => absurd z (by decide)) (fun _ => rfl) ?_
  have hv : ∀ i, i < C t → bg_cp a_value 0 (fun i => bg_vl a_contents a_now (P (t * 3 + i))) (C t) i = bg_vl a_contents a_now (P (t * 3 + i)) := fun i hi => bg_cpz hi
  refine xa_isLast ht hC (h3 t) hL (hL3 t) (fun z1 z2 => ?_) (fun z => ?_)
  · exact br_f (by decide) (p0 (fun y => y.1 ⟨z1, bg_smC hv z2⟩) _)
  · refine br_t rfl ?_
    refine xa_inStore hN ht hC (h3 t) hK hK3 (hW t ht) hO hH (fun y => ?_) (fun y => ?_)
    · exact br_f (by decide) (p0 (fun w => w.2 (bg_insC hv y)) _)
    · exact br_t rfl (p1 (fun w => z ⟨w.1, bg_smC (fun i hi => (hv i hi).symm) w.2⟩) (fun w => y (bg_insC (fun i hi => (hv i hi).symm) w)) _)
theorem qb_X {post : Int32 → SX → Prop} (hT : T ≤ 12) (hC : ∀ j, a_inputs j = nI (C j)) (hP : ∀ j, a_input j = nI (P j)) (h3 : ∀ j, C j ≤ 3) (hb : ∀ t i, i < C t → P (t * 3 + i) < 8 + t) (hL : ∀ j, a_lastInputs j = nI (LN j)) (hL3 : ∀ j, LN j ≤ 3) (hN : N ≤ 480) (hK : ∀ j, a_keptInputs j = nI (KN j)) (hK3 : ∀ j, KN j ≤ 3) (hW : ∀ t, t < 12 → a_newest t = bg_pv own t N) (hO : ∀ r, r < N → a_older r = bg_pv own (own r) r) (hH : ∀ r, r < N → a_hash r = bg_hh (a_keptConstant r) (KN r) (fun i => a_keptValue (r * 3 + i))) (hp : ∀ val, post (bg_ct (fun t => bt s t = true ∧ ¬ bg_lst (a_hasLast t) (a_lastConstant t) (LN t) (fun i => a_lastValue (t * 3 + i)) (a_constants t) (C t) (fun i => bg_vl a_contents a_now (P (t * 3 + i))) ∧ ¬ bg_ins N own a_keptConstant KN a_keptValue (a_constants t) (C t) t (fun i => bg_vl a_contents a_now (P (t * 3 + i)))) T) (f_revision, (nI T), f_builds, f_records, f_total, a_contents, a_contentRevision, a_kind, a_constants, a_inputs, a_input, a_taskRevision, a_hasLast, a_lastConstant, a_lastInputs, a_lastValue, a_seenRevision, a_outputs, a_outputRevision, a_newest, a_older, a_hash, a_keptConstant, a_keptInputs, a_keptValue, val, a_outcome, a_now)) : ∀ d t n val, t + d = T → d < n → wX_work_25 post s n (bg_ct (fun t => bt s t = true ∧ ¬ bg_lst (a_hasLast t) (a_lastConstant t) (LN t) (fun i => a_lastValue (t * 3 + i)) (a_constants t) (C t) (fun i => bg_vl a_contents a_now (P (t * 3 + i))) ∧ ¬ bg_ins N own a_keptConstant KN a_keptValue (a_constants t) (C t) t (fun i => bg_vl a_contents a_now (P (t * 3 + i)))) t) (nI t) f_revision (nI T) f_builds f_records f_total a_contents a_contentRevision a_kind a_constants a_inputs a_input a_taskRevision a_hasLast a_lastConstant a_lastInputs a_lastValue a_seenRevision a_outputs a_outputRevision a_newest a_older a_hash a_keptConstant a_keptInputs a_keptValue val a_outcome a_now := by
  intro d
  induction d with
  | zero =>
    intro t n val ht hn
    obtain ⟨m, rfl⟩ : ∃ m, n = m + 1 := ⟨n - 1, by omega⟩
    have e : t = T := by omega
    subst e
    exact br_t (nI_le (Nat.le_refl t) (by omega)) (hp val)
  | succ d ih =>
    intro t n val ht hn
    obtain ⟨m, rfl⟩ : ∃ m, n = m + 1 := ⟨n - 1, by omega⟩
    have K := fun val => ih (t + 1) m val (by omega) (by omega)
    refine br_f (nI_ge (by omega) (by omega)) ?_
    by_cases hs : bt s t = true
    · refine br_t (bg_bitT (by omega) hs) ?_
      refine qa_would (by omega) hC hP h3 hb hL hL3 hN hK hK3 hW hO hH (fun y1 y2 val' => ?_) (fun y val' => ?_)
      · have g : (fun t => bt s t = true ∧ ¬ bg_lst (a_hasLast t) (a_lastConstant t) (LN t) (fun i => a_lastValue (t * 3 + i)) (a_constants t) (C t) (fun i => bg_vl a_contents a_now (P (t * 3 + i))) ∧ ¬ bg_ins N own a_keptConstant KN a_keptValue (a_constants t) (C t) t (fun i => bg_vl a_contents a_now (P (t * 3 + i)))) t := ⟨hs, y1, y2⟩
        have K' := K val'
        rw [bg_ctT g] at K'
        exact br_f (by decide) (nm_e (nm_r (nI_1 t) K'))
      · have g : ¬ (fun t => bt s t = true ∧ ¬ bg_lst (a_hasLast t) (a_lastConstant t) (LN t) (fun i => a_lastValue (t * 3 + i)) (a_constants t) (C t) (fun i => bg_vl a_contents a_now (P (t * 3 + i))) ∧ ¬ bg_ins N own a_keptConstant KN a_keptValue (a_constants t) (C t) t (fun i => bg_vl a_contents a_now (P (t * 3 + i)))) t := fun z => y z.2
        have K' := K val'
        rw [bg_ctF g] at K'
        exact br_t rfl (nm_r (nI_1 t) K')
    · have g : ¬ (fun t => bt s t = true ∧ ¬ bg_lst (a_hasLast t) (a_lastConstant t) (LN t) (fun i => a_lastValue (t * 3 + i)) (a_constants t) (C t) (fun i => bg_vl a_contents a_now (P (t * 3 + i))) ∧ ¬ bg_ins N own a_keptConstant KN a_keptValue (a_constants t) (C t) t (fun i => bg_vl a_contents a_now (P (t * 3 + i)))) t := fun z => hs z.1
      have K' := K val
      rw [bg_ctF g] at K'
      exact br_f (bg_bitF (by omega) hs) (nm_r (nI_1 t) K')
theorem qc_X {post : Int32 → SX → Prop} (hT : T ≤ 12) (hC : ∀ j, a_inputs j = nI (C j)) (hP : ∀ j, a_input j = nI (P j)) (h3 : ∀ j, C j ≤ 3) (hb : ∀ t i, i < C t → P (t * 3 + i) < 8 + t) (hL : ∀ j, a_lastInputs j = nI (LN j)) (hL3 : ∀ j, LN j ≤ 3) (hp : ∀ val, post (bg_ct (fun t => ¬ bg_lst (a_hasLast t) (a_lastConstant t) (LN t) (fun i => a_lastValue (t * 3 + i)) (a_constants t) (C t) (fun i => bg_vl a_contents a_now (P (t * 3 + i)))) T) (f_revision, (nI T), f_builds, f_records, f_total, a_contents, a_contentRevision, a_kind, a_constants, a_inputs, a_input, a_taskRevision, a_hasLast, a_lastConstant, a_lastInputs, a_lastValue, a_seenRevision, a_outputs, a_outputRevision, a_newest, a_older, a_hash, a_keptConstant, a_keptInputs, a_keptValue, val, a_outcome, a_now)) : ∀ d t n val, t + d = T → d < n → wX_stale_8 post n (bg_ct (fun t => ¬ bg_lst (a_hasLast t) (a_lastConstant t) (LN t) (fun i => a_lastValue (t * 3 + i)) (a_constants t) (C t) (fun i => bg_vl a_contents a_now (P (t * 3 + i)))) t) (nI t) f_revision (nI T) f_builds f_records f_total a_contents a_contentRevision a_kind a_constants a_inputs a_input a_taskRevision a_hasLast a_lastConstant a_lastInputs a_lastValue a_seenRevision a_outputs a_outputRevision a_newest a_older a_hash a_keptConstant a_keptInputs a_keptValue val a_outcome a_now := by
  intro d
  induction d with
  | zero =>
    intro t n val ht hn
    obtain ⟨m, rfl⟩ : ∃ m, n = m + 1 := ⟨n - 1, by omega⟩
    have e : t = T := by omega
    subst e
    exact br_t (nI_le (Nat.le_refl t) (by omega)) (hp val)
  | succ d ih =>
    intro t n val ht hn
    obtain ⟨m, rfl⟩ : ∃ m, n = m + 1 := ⟨n - 1, by omega⟩
    have K := fun val => ih (t + 1) m val (by omega) (by omega)
    have ht12 : t < 12 := by omega
    refine br_f (nI_ge (by omega) (by omega)) ?_
    refine xa_loadRecord (o := a_now) ht12 hC hP (h3 t) (hb t) (fun z => absurd z (by decide)) (fun _ => rfl) ?_
    have hv : ∀ i, i < C t → bg_cp val 0 (fun i => bg_vl a_contents a_now (P (t * 3 + i))) (C t) i = bg_vl a_contents a_now (P (t * 3 + i)) := fun i hi => bg_cpz hi
    refine xa_isLast ht12 hC (h3 t) hL (hL3 t) (fun z1 z2 => ?_) (fun z => ?_)
    · have g : ¬ (fun t => ¬ bg_lst (a_hasLast t) (a_lastConstant t) (LN t) (fun i => a_lastValue (t * 3 + i)) (a_constants t) (C t) (fun i => bg_vl a_contents a_now (P (t * 3 + i)))) t := fun y => y ⟨z1, bg_smC hv z2⟩
      have K' := K (bg_cp val 0 (fun i => bg_vl a_contents a_now (P (t * 3 + i))) (C t))
      rw [bg_ctF g] at K'
      exact br_f (by decide) (nm_r (nI_1 t) K')
    · have g : (fun t => ¬ bg_lst (a_hasLast t) (a_lastConstant t) (LN t) (fun i => a_lastValue (t * 3 + i)) (a_constants t) (C t) (fun i => bg_vl a_contents a_now (P (t * 3 + i)))) t := fun y => z ⟨y.1, bg_smC (fun i hi => (hv i hi).symm) y.2⟩
      have K' := K (bg_cp val 0 (fun i => bg_vl a_contents a_now (P (t * 3 + i))) (C t))
      rw [bg_ctT g] at K'
      exact br_t rfl (nm_e (nm_r (nI_1 t) K'))
theorem qb_Y {post : Int32 → SY → Prop} (hT : T ≤ 12) (hC : ∀ j, a_inputs j = nI (C j)) (hP : ∀ j, a_input j = nI (P j)) (h3 : ∀ j, C j ≤ 3) (hb : ∀ t i, i < C t → P (t * 3 + i) < 8 + t) (hS : ∀ j, b_stored j = nI (S j)) (hS40 : ∀ j, j < 12 → S j ≤ 40) (hp : post (bg_ct (fun t => bt s t = true ∧ ¬ (a_hasLast t ≠ 0 ∧ bg_E5 (fun i => b_last (t * 5 + i)) (bg_rc (a_constants t) (C t) (fun i => bg_vl a_contents b_now (P (t * 3 + i))))) ∧ ¬ (bg_sto (S t) b_store t (bg_rc (a_constants t) (C t) (fun i => bg_vl a_contents b_now (P (t * 3 + i)))))) T) ((nI T), f_builds, f_done, a_contents, a_kind, a_constants, a_inputs, a_input, a_outputs, a_outcome, a_hasLast, b_last, b_stored, b_store, b_now)) : ∀ d t n, t + d = T → d < n → wY_work_25 post s (nI T) f_builds f_done a_contents a_kind a_constants a_inputs a_input a_outputs a_outcome a_hasLast b_last b_stored b_store b_now n (bg_ct (fun t => bt s t = true ∧ ¬ (a_hasLast t ≠ 0 ∧ bg_E5 (fun i => b_last (t * 5 + i)) (bg_rc (a_constants t) (C t) (fun i => bg_vl a_contents b_now (P (t * 3 + i))))) ∧ ¬ (bg_sto (S t) b_store t (bg_rc (a_constants t) (C t) (fun i => bg_vl a_contents b_now (P (t * 3 + i)))))) t) (nI t) := by
  intro d
  induction d with
  | zero =>
    intro t n ht hn
    obtain ⟨m, rfl⟩ : ∃ m, n = m + 1 := ⟨n - 1, by omega⟩
    have e : t = T := by omega
    subst e
    exact br_t (nI_le (Nat.le_refl t) (by omega)) hp
  | succ d ih =>
    intro t n ht hn
    obtain ⟨m, rfl⟩ : ∃ m, n = m + 1 := ⟨n - 1, by omega⟩
    have K := ih (t + 1) m (by omega) (by omega)
    have ht12 : t < 12 := by omega
    refine br_f (nI_ge (by omega) (by omega)) ?_
    by_cases hs : bt s t = true
    · refine br_t (bg_bitT (by omega) hs) ?_
      refine ya_isLast ht12 hC hP (h3 t) (hb t) (fun z1 z2 => ?_) (fun z => ?_)
      · have g : ¬ (fun t => bt s t = true ∧ ¬ (a_hasLast t ≠ 0 ∧ bg_E5 (fun i => b_last (t * 5 + i)) (bg_rc (a_constants t) (C t) (fun i => bg_vl a_contents b_now (P (t * 3 + i))))) ∧ ¬ (bg_sto (S t) b_store t (bg_rc (a_constants t) (C t) (fun i => bg_vl a_contents b_now (P (t * 3 + i)))))) t := fun y => y.2.1 ⟨z1, z2⟩
        rw [bg_ctF g] at K
        exact br_f (by decide) (nm_r (nI_1 t) K)
      · refine br_t rfl ?_
        refine ya_isStored ht12 hC hP (h3 t) (hb t) (hS t) (hS40 t ht12) (fun y => ?_) (fun y => ?_)
        · have g : ¬ (fun t => bt s t = true ∧ ¬ (a_hasLast t ≠ 0 ∧ bg_E5 (fun i => b_last (t * 5 + i)) (bg_rc (a_constants t) (C t) (fun i => bg_vl a_contents b_now (P (t * 3 + i))))) ∧ ¬ (bg_sto (S t) b_store t (bg_rc (a_constants t) (C t) (fun i => bg_vl a_contents b_now (P (t * 3 + i)))))) t := fun w => w.2.2 y
          rw [bg_ctF g] at K
          exact br_f (by decide) (nm_r (nI_1 t) K)
        · have g : (fun t => bt s t = true ∧ ¬ (a_hasLast t ≠ 0 ∧ bg_E5 (fun i => b_last (t * 5 + i)) (bg_rc (a_constants t) (C t) (fun i => bg_vl a_contents b_now (P (t * 3 + i))))) ∧ ¬ (bg_sto (S t) b_store t (bg_rc (a_constants t) (C t) (fun i => bg_vl a_contents b_now (P (t * 3 + i)))))) t := ⟨hs, z, y⟩
          rw [bg_ctT g] at K
          exact br_t rfl (nm_e (nm_r (nI_1 t) K))
    · have g : ¬ (fun t => bt s t = true ∧ ¬ (a_hasLast t ≠ 0 ∧ bg_E5 (fun i => b_last (t * 5 + i)) (bg_rc (a_constants t) (C t) (fun i => bg_vl a_contents b_now (P (t * 3 + i))))) ∧ ¬ (bg_sto (S t) b_store t (bg_rc (a_constants t) (C t) (fun i => bg_vl a_contents b_now (P (t * 3 + i)))))) t := fun z => hs z.1
      rw [bg_ctF g] at K
      exact br_f (bg_bitF (by omega) hs) (nm_r (nI_1 t) K)
theorem qc_Y {post : Int32 → SY → Prop} (hT : T ≤ 12) (hC : ∀ j, a_inputs j = nI (C j)) (hP : ∀ j, a_input j = nI (P j)) (h3 : ∀ j, C j ≤ 3) (hb : ∀ t i, i < C t → P (t * 3 + i) < 8 + t) (hp : post (bg_ct (fun t => ¬ (a_hasLast t ≠ 0 ∧ bg_E5 (fun i => b_last (t * 5 + i)) (bg_rc (a_constants t) (C t) (fun i => bg_vl a_contents b_now (P (t * 3 + i)))))) T) ((nI T), f_builds, f_done, a_contents, a_kind, a_constants, a_inputs, a_input, a_outputs, a_outcome, a_hasLast, b_last, b_stored, b_store, b_now)) : ∀ d t n, t + d = T → d < n → wY_stale_8 post (nI T) f_builds f_done a_contents a_kind a_constants a_inputs a_input a_outputs a_outcome a_hasLast b_last b_stored b_store b_now n (bg_ct (fun t => ¬ (a_hasLast t ≠ 0 ∧ bg_E5 (fun i => b_last (t * 5 + i)) (bg_rc (a_constants t) (C t) (fun i => bg_vl a_contents b_now (P (t * 3 + i)))))) t) (nI t) := by
  intro d
  induction d with
  | zero =>
    intro t n ht hn
    obtain ⟨m, rfl⟩ : ∃ m, n = m + 1 := ⟨n - 1, by omega⟩
    have e : t = T := by omega
    subst e
    exact br_t (nI_le (Nat.le_refl t) (by omega)) hp
  | succ d ih =>
    intro t n ht hn
    obtain ⟨m, rfl⟩ : ∃ m, n = m + 1 := ⟨n - 1, by omega⟩
    have K := ih (t + 1) m (by omega) (by omega)
    have ht12 : t < 12 := by omega
    refine br_f (nI_ge (by omega) (by omega)) ?_
    refine ya_isLast ht12 hC hP (h3 t) (hb t) (fun z1 z2 => ?_) (fun z => ?_)
    · have g : ¬ (fun t => ¬ (a_hasLast t ≠ 0 ∧ bg_E5 (fun i => b_last (t * 5 + i)) (bg_rc (a_constants t) (C t) (fun i => bg_vl a_contents b_now (P (t * 3 + i)))))) t := fun y => y ⟨z1, z2⟩
      rw [bg_ctF g] at K
      exact br_f (by decide) (nm_r (nI_1 t) K)
    · have g : (fun t => ¬ (a_hasLast t ≠ 0 ∧ bg_E5 (fun i => b_last (t * 5 + i)) (bg_rc (a_constants t) (C t) (fun i => bg_vl a_contents b_now (P (t * 3 + i)))))) t := z
      rw [bg_ctT g] at K
      exact br_t rfl (nm_e (nm_r (nI_1 t) K))
/-! the same answers -/
theorem qd_v (hb : ∀ t i, i < C t → P (t * 3 + i) < 8 + t) (ht : t < T) (hn : ∀ j, j < T → a_now j = b_now j) : ∀ i, i < C t → bg_vl a_contents a_now (P (t * 3 + i)) = bg_vl a_contents b_now (P (t * 3 + i)) := by
  intro i hi
  have := hb t i hi
  by_cases h8 : P (t * 3 + i) < 8
  · rw [bg_vlL h8, bg_vlL h8]
  · rw [bg_vlH (by omega), bg_vlH (by omega)]
    exact hn _ (by omega)
theorem qd_S (hF : rg_F k 12 V T B N C P LN KN own S a_contents a_contentRevision a_kind a_constants a_inputs a_input a_taskRevision a_hasLast a_lastConstant a_lastInputs a_lastValue a_seenRevision a_outputs a_outputRevision a_newest a_older a_hash a_keptConstant a_keptInputs a_keptValue a_outcome b_last b_stored b_store) (hn : ∀ j, j < T → a_now j = b_now j) : bg_ct (fun t => ¬ (a_hasLast t ≠ 0 ∧ bg_E5 (fun i => b_last (t * 5 + i)) (bg_rc (a_constants t) (C t) (fun i => bg_vl a_contents b_now (P (t * 3 + i)))))) T = bg_ct (fun t => ¬ bg_lst (a_hasLast t) (a_lastConstant t) (LN t) (fun i => a_lastValue (t * 3 + i)) (a_constants t) (C t) (fun i => bg_vl a_contents a_now (P (t * 3 + i)))) T := by
  refine bg_ctC T (fun t ht => ?_)
  have hv := qd_v (a_contents := a_contents) hF.1.2.2.2.2.2.1 ht hn
  have hl := rh_lst (b_now := b_now) ht hF
  exact ⟨fun z w => z (hl.mp (bg_lstC hv w)), fun z w => z (bg_lstC (fun i hi => (hv i hi).symm) (hl.mpr w))⟩
theorem qd_W (hF : rg_F k 12 V T B N C P LN KN own S a_contents a_contentRevision a_kind a_constants a_inputs a_input a_taskRevision a_hasLast a_lastConstant a_lastInputs a_lastValue a_seenRevision a_outputs a_outputRevision a_newest a_older a_hash a_keptConstant a_keptInputs a_keptValue a_outcome b_last b_stored b_store) (hn : ∀ j, j < T → a_now j = b_now j) : bg_ct (fun t => bt s t = true ∧ ¬ (a_hasLast t ≠ 0 ∧ bg_E5 (fun i => b_last (t * 5 + i)) (bg_rc (a_constants t) (C t) (fun i => bg_vl a_contents b_now (P (t * 3 + i))))) ∧ ¬ (bg_sto (S t) b_store t (bg_rc (a_constants t) (C t) (fun i => bg_vl a_contents b_now (P (t * 3 + i)))))) T = bg_ct (fun t => bt s t = true ∧ ¬ bg_lst (a_hasLast t) (a_lastConstant t) (LN t) (fun i => a_lastValue (t * 3 + i)) (a_constants t) (C t) (fun i => bg_vl a_contents a_now (P (t * 3 + i))) ∧ ¬ bg_ins N own a_keptConstant KN a_keptValue (a_constants t) (C t) t (fun i => bg_vl a_contents a_now (P (t * 3 + i)))) T := by
  refine bg_ctC T (fun t ht => ?_)
  have hv := qd_v (a_contents := a_contents) hF.1.2.2.2.2.2.1 ht hn
  have hl := rh_lst (b_now := b_now) ht hF
  have hi := rh_ins (b_now := b_now) ht hF
  exact ⟨fun z => ⟨z.1, fun w => z.2.1 (hl.mp (bg_lstC hv w)), fun w => z.2.2 (hi.mp (bg_insC hv w))⟩, fun z => ⟨z.1, fun w => z.2.1 (bg_lstC (fun i hi => (hv i hi).symm) (hl.mpr w)), fun w => z.2.2 (bg_insC (fun i hi => (hv i hi).symm) (hi.mpr w))⟩⟩
end
end
section
/-! fresh, needed, work, stale -/
theorem i_vc_fresh {k : Nat} {u : SX} {v : SY} (I : i_Rel k u v) (hk : k + 3 ≤ 1536) (v1 : Int32) : wpX_fresh (fun r u' => wpY_fresh (fun r' v' => r' = r ∧ i_Rel (k + 3) u' v') v v1) u v1 := by
  refine zz_el (Q := fun u v => wpX_fresh (fun r u' => wpY_fresh (fun r' v' => r' = r ∧ i_Rel (k + 3) u' v') v v1) u v1) I ?_
  intro V T B N C P LN KN own S f_total a_contents a_contentRevision a_kind a_constants a_inputs a_input a_taskRevision a_hasLast a_lastConstant a_lastInputs a_lastValue a_seenRevision a_outputs a_outputRevision a_newest a_older a_hash a_keptConstant a_keptInputs a_keptValue a_value a_outcome a_now b_last b_stored b_store b_now hF
  have hF3 := zz_up hF (k' := k + 3) (by omega) (Nat.le_refl 12)
  obtain ⟨hA, hB, hC, hL, hD, hU, hN, hK, hM⟩ := id hF; obtain ⟨h12, hAc, hA3, hA0, hAp, hAb, hAk⟩ := id hA
  have hl : bg_Lc (bg_R a_kind a_constants C P a_contents) T := fun o o' t _ h => bg_RC (hAb t) h
  unfold wpX_fresh wpY_fresh
  rcases sa_bad T h12 v1 with ⟨q, hq, rfl⟩ | hbad
  · have hin : vp_in (nI q) 12 := vp_in_nI (by omega) (by omega)
    refine sa_isT h12 hq (br_t rfl ?_)
    refine xb_workOutNow h12 hAc hAp hA3 hAb (fun val nw hnw => ?_)
    refine And.intro hin ?_
    refine sa_isTY h12 hq (br_t rfl ?_)
    refine yb_workOut h12 hAc hAp hA3 hAb hAk (fun nwY hnwY => ?_)
    refine And.intro hin (And.intro ?_ (zz_in hF3))
    rw [nI_clamp (by omega)]
    exact bg_FXu hl hnwY hnw q hq
  · exact sa_noT hbad (br_f (by decide) (sa_noTY hbad (br_f (by decide) ⟨rfl, zz_in hF3⟩)))
theorem i_vc_needed {k : Nat} {u : SX} {v : SY} (I : i_Rel k u v) (hk : k + 3 ≤ 1536) (v1 : Int32) : wpX_needed (fun r => wpY_needed (fun r' => r' = r ∧ i_Rel (k + 3) u v) v v1) u v1 := by
  refine zz_el (Q := fun u v => wpX_needed (fun r => wpY_needed (fun r' => r' = r ∧ i_Rel (k + 3) u v) v v1) u v1) I ?_
  intro V T B N C P LN KN own S f_total a_contents a_contentRevision a_kind a_constants a_inputs a_input a_taskRevision a_hasLast a_lastConstant a_lastInputs a_lastValue a_seenRevision a_outputs a_outputRevision a_newest a_older a_hash a_keptConstant a_keptInputs a_keptValue a_value a_outcome a_now b_last b_stored b_store b_now hF
  have J := zz_in (f_total := f_total) (a_value := a_value) (a_now := a_now) (b_now := b_now) (zz_up hF (k' := k + 3) (by omega) (Nat.le_refl 12))
  obtain ⟨hA, hB, hC, hL, hD, hU, hN, hK, hM⟩ := id hF; obtain ⟨h12, hAc, hA3, hA0, hAp, hAb, hAk⟩ := id hA
  unfold wpX_needed wpY_needed
  rcases sa_bad T h12 v1 with ⟨q, hq, rfl⟩ | hbad
  · refine sa_isT h12 hq (br_t rfl ?_)
    refine xa_neededSet (by omega) hAc hAp hA3 hAb ⟨13, ?_⟩
    refine qa_X (s := bg_ms C P q) ?_ 12 0 13 (by omega) (by omega)
    refine sa_isTY h12 hq (br_t rfl ?_)
    refine ya_needs (by omega) hAc hAp hA3 hAb ⟨13, ?_⟩
    exact qa_Y (s := bg_ms C P q) ⟨rfl, J⟩ 12 0 13 (by omega) (by omega)
  · exact sa_noT hbad (br_f (by decide) (sa_noTY hbad (br_f (by decide) ⟨rfl, J⟩)))
theorem i_vc_work {k : Nat} {u : SX} {v : SY} (I : i_Rel k u v) (hk : k + 3 ≤ 1536) (v1 : Int32) : wpX_work (fun r u' => wpY_work (fun r' v' => r' = r ∧ i_Rel (k + 3) u' v') v v1) u v1 := by
  refine zz_el (Q := fun u v => wpX_work (fun r u' => wpY_work (fun r' v' => r' = r ∧ i_Rel (k + 3) u' v') v v1) u v1) I ?_
  intro V T B N C P LN KN own S f_total a_contents a_contentRevision a_kind a_constants a_inputs a_input a_taskRevision a_hasLast a_lastConstant a_lastInputs a_lastValue a_seenRevision a_outputs a_outputRevision a_newest a_older a_hash a_keptConstant a_keptInputs a_keptValue a_value a_outcome a_now b_last b_stored b_store b_now hF
  have hF3 := zz_up hF (k' := k + 3) (by omega) (Nat.le_refl 12)
  obtain ⟨hA, hB, hC, hL, hD, hU, hN, hK, hM⟩ := id hF; obtain ⟨h12, hAc, hA3, hA0, hAp, hAb, hAk⟩ := id hA
  have hl : bg_Lc (bg_R a_kind a_constants C P a_contents) T := fun o o' t _ h => bg_RC (hAb t) h
  have hB40 := hN.1
  have hNN := hN.2.1
  unfold wpX_work wpY_work
  rcases sa_bad T h12 v1 with ⟨q, hq, rfl⟩ | hbad
  · refine sa_isT h12 hq (br_t rfl ?_)
    refine xb_workOutNow h12 hAc hAp hA3 hAb (fun val nw hnw => ?_)
    refine xa_neededSet (by omega) hAc hAp hA3 hAb ⟨T + 1, ?_⟩
    refine qb_X (s := bg_ms C P q) h12 hAc hAp hA3 hAb hC.2.2.1 hC.2.2.2 (by omega) hK.2.2.1 hK.2.2.2.1 hK.1 hK.2.1 hK.2.2.2.2 (fun val' => ?_) T 0 (T + 1) val (by omega) (by omega)
    refine sa_isTY h12 hq (br_t rfl ?_)
    refine yb_workOut h12 hAc hAp hA3 hAb hAk (fun nwY hnwY => ?_)
    refine ya_needs (by omega) hAc hAp hA3 hAb ⟨T + 1, ?_⟩
    refine qb_Y (s := bg_ms C P q) h12 hAc hAp hA3 hAb hN.2.2.1 (fun j hj => Nat.le_trans (hN.2.2.2.1 j hj) hB40) ?_ T 0 (T + 1) (by omega) (by omega)
    exact And.intro (qd_W hF (bg_FXu hl hnw hnwY)) (zz_in hF3)
  · exact sa_noT hbad (br_f (by decide) (sa_noTY hbad (br_f (by decide) ⟨rfl, zz_in hF3⟩)))
theorem i_vc_stale {k : Nat} {u : SX} {v : SY} (I : i_Rel k u v) (hk : k + 3 ≤ 1536) : wpX_stale (fun r u' => wpY_stale (fun r' v' => r' = r ∧ i_Rel (k + 3) u' v') v) u := by
  refine zz_el (Q := fun u v => wpX_stale (fun r u' => wpY_stale (fun r' v' => r' = r ∧ i_Rel (k + 3) u' v') v) u) I ?_
  intro V T B N C P LN KN own S f_total a_contents a_contentRevision a_kind a_constants a_inputs a_input a_taskRevision a_hasLast a_lastConstant a_lastInputs a_lastValue a_seenRevision a_outputs a_outputRevision a_newest a_older a_hash a_keptConstant a_keptInputs a_keptValue a_value a_outcome a_now b_last b_stored b_store b_now hF
  have hF3 := zz_up hF (k' := k + 3) (by omega) (Nat.le_refl 12)
  obtain ⟨hA, hB, hC, hL, hD, hU, hN, hK, hM⟩ := id hF; obtain ⟨h12, hAc, hA3, hA0, hAp, hAb, hAk⟩ := id hA
  have hl : bg_Lc (bg_R a_kind a_constants C P a_contents) T := fun o o' t _ h => bg_RC (hAb t) h
  unfold wpX_stale wpY_stale
  refine xb_workOutNow h12 hAc hAp hA3 hAb (fun val nw hnw => ?_)
  refine ⟨T + 1, ?_⟩
  refine qc_X h12 hAc hAp hA3 hAb hC.2.2.1 hC.2.2.2 (fun val' => ?_) T 0 (T + 1) val (by omega) (by omega)
  refine yb_workOut h12 hAc hAp hA3 hAb hAk (fun nwY hnwY => ⟨T + 1, ?_⟩)
  refine qc_Y h12 hAc hAp hA3 hAb ?_ T 0 (T + 1) (by omega) (by omega)
  exact And.intro (qd_S hF (bg_FXu hl hnw hnwY)) (zz_in hF3)
end
