section
/-! bits of an Int32 (rows turned from the kit's BITS text), the order by bits, kinds of a mask -/
def pj_bt (x : Int32) (i : Nat) : Bool := x.toBitVec.getLsbD i
theorem pj_bext {x y : Int32} (h : ∀ i, i < 32 → pj_bt x i = pj_bt y i) : x = y := Int32.toBitVec_inj.mp (BitVec.eq_of_getLsbD_eq (fun i hi => h i hi))
theorem pj_bor (x y : Int32) (i : Nat) : pj_bt (x ||| y) i = (pj_bt x i || pj_bt y i) := by unfold pj_bt; rw [Int32.toBitVec_or, BitVec.getLsbD_or]
theorem pj_band (x y : Int32) (i : Nat) : pj_bt (x &&& y) i = (pj_bt x i && pj_bt y i) := by unfold pj_bt; rw [Int32.toBitVec_and, BitVec.getLsbD_and]
theorem pj_bxor (x y : Int32) (i : Nat) : pj_bt (x ^^^ y) i = (pj_bt x i ^^ pj_bt y i) := by unfold pj_bt; rw [Int32.toBitVec_xor, BitVec.getLsbD_xor]
theorem pj_bbig {x : Int32} {i : Nat} (h : 32 ≤ i) : pj_bt x i = false := BitVec.getLsbD_of_ge _ _ h
theorem pj_b7 (i : Nat) : pj_bt 7 i = decide (i < 3) := by
  rcases Nat.lt_or_ge i 32 with h | h
  · exact (by decide +kernel : ∀ i, i < 32 → pj_bt 7 i = decide (i < 3)) i h
  · rw [pj_bbig h, decide_eq_false (by omega)]
theorem pj_bm1 : ∀ i, i < 32 → pj_bt (-1) i = true := by decide +kernel
theorem pj_b0 (i : Nat) : pj_bt 0 i = false := BitVec.getLsbD_zero
theorem pj_sl : ∀ n, n < 32 → ((nI n &&& 31).toBitVec.smod 32).toNat = n := by decide +kernel
theorem pj_bshl (n : Nat) (hn : n < 32) (x : Int32) {i : Nat} (hi : i < 32) : pj_bt (x <<< (nI n &&& 31)) i = (decide (n ≤ i) && pj_bt x (i - n)) := by
  unfold pj_bt
  rw [Int32.toBitVec_shiftLeft]
  show (x.toBitVec <<< ((nI n &&& 31).toBitVec.smod 32).toNat).getLsbD i = _
  rw [pj_sl n hn, BitVec.getLsbD_shiftLeft]
  rcases Nat.lt_or_ge i n with h | h
  · simp [h, Nat.not_le.mpr h]
  · simp [hi, h, Nat.not_lt.mpr h]
theorem pj_bsshr (n : Nat) (hn : n < 32) (x : Int32) {i : Nat} (hi : i < 32) : pj_bt (x >>> (nI n &&& 31)) i = if n + i < 32 then pj_bt x (n + i) else pj_bt x 31 := by
  unfold pj_bt
  rw [Int32.toBitVec_shiftRight]
  show (x.toBitVec.sshiftRight ((nI n &&& 31).toBitVec.smod 32).toNat).getLsbD i = _
  rw [pj_sl n hn, BitVec.getLsbD_sshiftRight, BitVec.msb_eq_getLsbD_last]
  simp [hi]
theorem pj_cnt (s : Int32) : ∃ n, n < 32 ∧ s &&& 31 = nI n &&& 31 := by
  obtain ⟨j, hj, e⟩ := pk_andE s (m := 31) 5 (by decide)
  refine ⟨j, hj, ?_⟩
  rw [e, pk_andN (by omega) (m := 31) 5 (by decide), Nat.mod_eq_of_lt hj]

/-! the order: x lies below y -/
def pj_le (x y : Int32) : Prop := y ||| x = y
theorem pj_le_bt {x y : Int32} (h : pj_le x y) (i : Nat) (hx : pj_bt x i = true) : pj_bt y i = true := by
  have e : pj_bt (y ||| x) i = pj_bt y i := by rw [show y ||| x = y from h]
  rw [pj_bor, hx] at e
  rw [← e]
  simp
theorem pj_le_of {x y : Int32} (h : ∀ i, i < 32 → pj_bt x i = true → pj_bt y i = true) : pj_le x y := by
  refine pj_bext (fun i hi => ?_)
  rw [pj_bor]
  cases hx : pj_bt x i
  · simp
  · rw [h i hi hx]; simp
theorem pj_le_refl (x : Int32) : pj_le x x := pj_le_of (fun _ _ h => h)
theorem pj_le_trans {x y z : Int32} (h : pj_le x y) (g : pj_le y z) : pj_le x z := pj_le_of (fun i _ e => pj_le_bt g i (pj_le_bt h i e))
theorem pj_le_orl (x y : Int32) : pj_le x (x ||| y) := pj_le_of (fun i _ e => by rw [pj_bor, e]; rfl)
theorem pj_le_orr (x y : Int32) : pj_le y (x ||| y) := pj_le_of (fun i _ e => by rw [pj_bor, e]; simp)
theorem pj_le_or {x y z : Int32} (h : pj_le x z) (g : pj_le y z) : pj_le (x ||| y) z := pj_le_of (fun i _ e => by
  rw [pj_bor] at e
  cases hx : pj_bt x i
  · rw [hx] at e; exact pj_le_bt g i (by simpa using e)
  · exact pj_le_bt h i hx)
theorem pj_le_0 (y : Int32) : pj_le 0 y := pj_le_of (fun i _ e => by rw [pj_b0] at e; exact absurd e (by decide))
theorem pj_le_nz {x y : Int32} (h : pj_le x y) (hx : x ≠ 0) : y ≠ 0 := by
  intro e
  apply hx
  refine pj_bext (fun i hi => ?_)
  rw [pj_b0]
  cases hb : pj_bt x i
  · rfl
  · have := pj_le_bt h i hb
    rw [e, pj_b0] at this
    exact this.symm

/-! kindAt and withKind -/
def pj_ka (m p : Int32) : Int32 := (m >>> ((3 * p) &&& 31)) &&& 7
def pj_wk (m p k : Int32) : Int32 := (m &&& (((7 : Int32) <<< ((3 * p) &&& 31)) ^^^ (-1))) ||| (k <<< ((3 * p) &&& 31))
theorem pj_ka_mono {x y : Int32} (h : pj_le x y) (p : Int32) : pj_le (pj_ka x p) (pj_ka y p) := by
  unfold pj_ka
  obtain ⟨n, hn, e⟩ := pj_cnt (3 * p)
  rw [e]
  refine pj_le_of (fun i hi hx => ?_)
  rw [pj_band, pj_bsshr n hn _ hi] at hx ⊢
  rw [Bool.and_eq_true] at hx ⊢
  refine ⟨?_, hx.2⟩
  have h1 := hx.1
  by_cases c : n + i < 32
  · rw [if_pos c] at h1 ⊢; exact pj_le_bt h _ h1
  · rw [if_neg c] at h1 ⊢; exact pj_le_bt h _ h1
theorem pj_wk_mono {x y k l : Int32} (h : pj_le x y) (g : pj_le k l) (p : Int32) : pj_le (pj_wk x p k) (pj_wk y p l) := by
  unfold pj_wk
  obtain ⟨n, hn, e⟩ := pj_cnt (3 * p)
  rw [e]
  refine pj_le_of (fun i hi hx => ?_)
  rw [pj_bor, pj_band, pj_bshl n hn k hi] at hx
  rw [pj_bor, pj_band, pj_bshl n hn l hi]
  rw [Bool.or_eq_true, Bool.and_eq_true, Bool.and_eq_true] at hx ⊢
  rcases hx with ⟨a, b⟩ | ⟨a, b⟩
  · exact Or.inl ⟨pj_le_bt h i a, b⟩
  · exact Or.inr ⟨a, pj_le_bt g _ b⟩
def pj_kind (k : Int32) : Prop := ∀ i, 3 ≤ i → pj_bt k i = false
theorem pj_kind_ka (m p : Int32) : pj_kind (pj_ka m p) := fun i hi => by
  unfold pj_ka
  rw [pj_band, pj_b7, decide_eq_false (by omega)]
  simp
theorem pj_kind_n : ∀ j, j < 8 → pj_kind (nI j) := by
  intro j hj i hi
  rcases Nat.lt_or_ge i 32 with h | h
  · exact (by decide +kernel : ∀ j, j < 8 → ∀ i, i < 32 → 3 ≤ i → pj_bt (nI j) i = false) j hj i h hi
  · exact pj_bbig h
theorem pj_kind_0 : pj_kind 0 := pj_kind_n 0 (by omega)
theorem pj_kind_1 : pj_kind 1 := pj_kind_n 1 (by omega)
theorem pj_kind_2 : pj_kind 2 := pj_kind_n 2 (by omega)
theorem pj_kind_4 : pj_kind 4 := pj_kind_n 4 (by omega)
theorem pj_kind_lt {k : Int32} (h : pj_kind k) : ∃ j, j < 8 ∧ k = nI j := by
  obtain ⟨j, hj, e⟩ := pk_andE k (m := 7) 3 (by decide)
  refine ⟨j, hj, ?_⟩
  rw [← e]
  refine pj_bext (fun i hi => ?_)
  rw [pj_band, pj_b7]
  rcases Nat.lt_or_ge i 3 with z | z
  · rw [decide_eq_true z]; simp
  · rw [h i z]; simp
theorem pj_mul3 (p : Nat) : (3 : Int32) * nI p = nI (3 * p) := pk_mul 3 p
theorem pj_ka_bt (m : Int32) {q : Nat} (hq : q < 6) {i : Nat} (hi : i < 3) : pj_bt (pj_ka m (nI q)) i = pj_bt m (3 * q + i) := by
  unfold pj_ka
  rw [pj_mul3, pj_band, pj_b7, decide_eq_true hi, pj_bsshr (3 * q) (by omega) m (by omega), if_pos (by omega)]
  simp
theorem pj_wk_bt (m : Int32) {p : Nat} (hp : p < 6) {k : Int32} (hk : pj_kind k) {i : Nat} (hi : i < 32) : pj_bt (pj_wk m (nI p) k) i = if 3 * p ≤ i ∧ i < 3 * p + 3 then pj_bt k (i - 3 * p) else pj_bt m i := by
  unfold pj_wk
  rw [pj_mul3, pj_bor, pj_band, pj_bxor, pj_bshl (3 * p) (by omega) 7 hi, pj_bshl (3 * p) (by omega) k hi, pj_b7, pj_bm1 i hi]
  by_cases h1 : 3 * p ≤ i
  · by_cases h2 : i < 3 * p + 3
    · rw [if_pos ⟨h1, h2⟩, decide_eq_true h1, decide_eq_true (show i - 3 * p < 3 by omega)]
      simp
    · rw [if_neg (fun z => h2 z.2), decide_eq_true h1, decide_eq_false (show ¬ i - 3 * p < 3 by omega), hk (i - 3 * p) (by omega)]
      simp
  · rw [if_neg (fun z => h1 z.1), decide_eq_false h1]
    simp
theorem pj_ka_ext {x y : Int32} (hx : pj_kind x) (hy : pj_kind y) (h : ∀ i, i < 3 → pj_bt x i = pj_bt y i) : x = y := pj_bext (fun i _ => by
  rcases Nat.lt_or_ge i 3 with z | z
  · exact h i z
  · rw [hx i z, hy i z])
theorem pj_ka_same (m : Int32) {p : Nat} (hp : p < 6) {k : Int32} (hk : pj_kind k) : pj_ka (pj_wk m (nI p) k) (nI p) = k := by
  refine pj_ka_ext (pj_kind_ka _ _) hk (fun i hi => ?_)
  rw [pj_ka_bt _ hp hi, pj_wk_bt m hp hk (by omega), if_pos (by omega), show 3 * p + i - 3 * p = i by omega]
theorem pj_ka_ne (m : Int32) {p q : Nat} (hp : p < 6) (hq : q < 6) (hn : q ≠ p) {k : Int32} (hk : pj_kind k) : pj_ka (pj_wk m (nI p) k) (nI q) = pj_ka m (nI q) := by
  refine pj_ka_ext (pj_kind_ka _ _) (pj_kind_ka _ _) (fun i hi => ?_)
  rw [pj_ka_bt _ hq hi, pj_ka_bt _ hq hi, pj_wk_bt m hp hk (by omega), if_neg (by omega)]
/-- the kinds of a mask, place by place -/
def pj_kv (m : Int32) : Nat → Int32 := fun q => pj_ka m (nI q)
theorem pj_kv_wk (m : Int32) {p q : Nat} (hp : p < 6) (hq : q < 6) {k : Int32} (hk : pj_kind k) : pj_kv (pj_wk m (nI p) k) q = upd (pj_kv m) p k q := by
  unfold pj_kv upd
  by_cases e : q = p
  · rw [if_pos e, e]; exact pj_ka_same m hp hk
  · rw [if_neg e]; exact pj_ka_ne m hp hq e hk
theorem pj_kv_kind (m : Int32) (q : Nat) : pj_kind (pj_kv m q) := pj_kind_ka _ _
theorem pj_kv_mono {x y : Int32} (h : pj_le x y) (q : Nat) : pj_le (pj_kv x q) (pj_kv y q) := pj_ka_mono h _
/-- a non-empty kind below 1 is 1, below 2 is 2 -/
theorem pj_below : ∀ j, j < 8 → nI j ≠ 0 → (pj_le (nI j) 1 → nI j = 1) ∧ (pj_le (nI j) 2 → nI j = 2) := by
  unfold pj_le
  decide +kernel
theorem pj_below1 {x y : Int32} (hx : pj_kind x) (h0 : x ≠ 0) (h : pj_le x y) (hy : y = 1) : x = 1 := by
  obtain ⟨j, hj, rfl⟩ := pj_kind_lt hx
  subst hy
  exact (pj_below j hj h0).1 h
theorem pj_below2 {x y : Int32} (hx : pj_kind x) (h0 : x ≠ 0) (h : pj_le x y) (hy : y = 2) : x = 2 := by
  obtain ⟨j, hj, rfl⟩ := pj_kind_lt hx
  subst hy
  exact (pj_below j hj h0).2 h

/-! eighteen bits -/
def pj_low (m : Int32) : Prop := ∀ i, 18 ≤ i → pj_bt m i = false
theorem pj_low_or {x y : Int32} (h : pj_low x) (g : pj_low y) : pj_low (x ||| y) := fun i hi => by rw [pj_bor, h i hi, g i hi]; rfl
theorem pj_low_0 : pj_low 0 := fun i _ => pj_b0 i
theorem pj_low_wk {m : Int32} (h : pj_low m) {p : Nat} (hp : p < 6) {k : Int32} (hk : pj_kind k) : pj_low (pj_wk m (nI p) k) := by
  intro i hi
  rcases Nat.lt_or_ge i 32 with z | z
  · rw [pj_wk_bt m hp hk z, if_neg (by omega)]
    exact h i hi
  · exact pj_bbig z
def pj_pc (m : Int32) : Nat → Nat
  | 0 => 0
  | n + 1 => pj_pc m n + (if pj_bt m n = true then 1 else 0)
theorem pj_pc_le (m : Int32) (n : Nat) : pj_pc m n ≤ n := by
  induction n with
  | zero => exact Nat.le_refl 0
  | succ n ih =>
    unfold pj_pc
    split <;> omega
theorem pj_pc_mono {x y : Int32} (h : pj_le x y) (n : Nat) : pj_pc x n ≤ pj_pc y n := by
  induction n with
  | zero => exact Nat.le_refl 0
  | succ n ih =>
    unfold pj_pc
    by_cases e : pj_bt x n = true
    · rw [if_pos e, if_pos (pj_le_bt h n e)]; omega
    · rw [if_neg e]; omega
theorem pj_pc_lt {x y : Int32} (h : pj_le x y) {i : Nat} (hx : pj_bt x i = false) (hy : pj_bt y i = true) (n : Nat) (hi : i < n) : pj_pc x n < pj_pc y n := by
  induction n with
  | zero => omega
  | succ n ih =>
    unfold pj_pc
    by_cases e : i = n
    · subst e
      rw [hx, hy]
      have := pj_pc_mono h i
      simp
      omega
    · have := ih (by omega)
      by_cases e : pj_bt x n = true
      · rw [if_pos e, if_pos (pj_le_bt h n e)]; omega
      · rw [if_neg e]; omega
theorem pj_pc_grow {x m : Int32} (hm : pj_low m) (h : ¬ x ||| m = x) : pj_pc x 18 < pj_pc (x ||| m) 18 := by
  have : ∃ i, i < 18 ∧ pj_bt x i = false ∧ pj_bt m i = true := by
    apply Classical.byContradiction
    intro z
    apply h
    refine pj_bext (fun i hi => ?_)
    rw [pj_bor]
    cases hx : pj_bt x i
    · cases hb : pj_bt m i
      · rfl
      · rcases Nat.lt_or_ge i 18 with g | g
        · exact absurd ⟨i, g, hx, hb⟩ z
        · rw [hm i g] at hb; exact absurd hb (by decide)
    · simp
  obtain ⟨i, hi, hx, hb⟩ := this
  exact pj_pc_lt (pj_le_orl x m) hx (by rw [pj_bor, hb]; simp) 18 hi
def pj_sum (M : Nat → Int32) : Nat → Nat
  | 0 => 0
  | n + 1 => pj_sum M n + pj_pc (M n) 18
theorem pj_sum_le (M : Nat → Int32) (n : Nat) : pj_sum M n ≤ 18 * n := by
  induction n with
  | zero => exact Nat.le_refl 0
  | succ n ih =>
    unfold pj_sum
    have := pj_pc_le (M n) 18
    omega
theorem pj_sum_eq {M N : Nat → Int32} (n : Nat) (h : ∀ j, j < n → N j = M j) : pj_sum N n = pj_sum M n := by
  induction n with
  | zero => rfl
  | succ n ih =>
    unfold pj_sum
    rw [ih (fun j hj => h j (by omega)), h n (by omega)]
theorem pj_sum_lt {M N : Nat → Int32} {k : Nat} (ho : ∀ j, j ≠ k → N j = M j) (hk : pj_pc (M k) 18 < pj_pc (N k) 18) (n : Nat) (h : k < n) : pj_sum M n < pj_sum N n := by
  induction n with
  | zero => omega
  | succ n ih =>
    unfold pj_sum
    by_cases e : k = n
    · subst e
      rw [pj_sum_eq (M := M) (N := N) k (fun j hj => ho j (by omega))]
      omega
    · have := ih (by omega)
      rw [ho n (fun z => e z.symm)]
      omega
end
section
/-! the instructions' tables and their walks -/
theorem pj_or14 {k : Nat} (h : k < 14) : k = 0 ∨ k = 1 ∨ k = 2 ∨ k = 3 ∨ k = 4 ∨ k = 5 ∨ k = 6 ∨ k = 7 ∨ k = 8 ∨ k = 9 ∨ k = 10 ∨ k = 11 ∨ k = 12 ∨ k = 13 := by omega
def pj_needs (k : Nat) : Nat := if k = 4 ∨ k = 5 ∨ k = 7 ∨ k = 12 then 2 else if k = 2 ∨ k = 3 ∨ k = 6 ∨ k = 9 ∨ k = 13 then 1 else 0
def pj_gr (k : Nat) : Int32 := if k = 0 ∨ k = 1 ∨ k = 3 ∨ k = 8 then 1 else if k = 7 then -2 else if k = 2 ∨ k = 5 ∨ k = 9 ∨ k = 12 then -1 else 0
def pj_nh (k h : Nat) : Nat := if k = 0 ∨ k = 1 ∨ k = 3 ∨ k = 8 then h + 1 else if k = 7 then h - 2 else if k = 2 ∨ k = 5 ∨ k = 9 ∨ k = 12 then h - 1 else h
def pj_rf (mh k h : Nat) : Nat := if h < pj_needs k then 1 else if (k = 0 ∨ k = 1 ∨ k = 3 ∨ k = 8) ∧ mh ≤ h then 2 else 0
theorem pj_nh_gr : ∀ k, k < 14 → ∀ h, h < 5 → pj_needs k ≤ h → nI h + pj_gr k = nI (pj_nh k h) := by decide +kernel
theorem pj_rf_needs {mh k h : Nat} (r : pj_rf mh k h = 0) : pj_needs k ≤ h := by
  unfold pj_rf at r
  split at r
  · omega
  · omega
theorem pj_rf_room {mh k h : Nat} (r : pj_rf mh k h = 0) (hk : k = 0 ∨ k = 1 ∨ k = 3 ∨ k = 8) : h < mh := by
  unfold pj_rf at r
  split at r
  · omega
  · split at r
    · omega
    · rename_i z
      rcases Nat.lt_or_ge h mh with g | g
      · exact g
      · exact absurd ⟨hk, g⟩ z
theorem pj_rf_lt (mh k h : Nat) : pj_rf mh k h < 3 := by
  unfold pj_rf
  split
  · omega
  · split <;> omega
theorem pj_nh_le {mh k h : Nat} (hm : mh ≤ 4) (r : pj_rf mh k h = 0) (hh : h ≤ 4) : pj_nh k h ≤ 4 := by
  unfold pj_nh
  split
  · rename_i z
    have := pj_rf_room r z
    omega
  · split
    · omega
    · split <;> omega
theorem pj_gr_cases (k : Nat) : ((k = 0 ∨ k = 1 ∨ k = 3 ∨ k = 8) ∧ pj_gr k = 1) ∨ (¬ (k = 0 ∨ k = 1 ∨ k = 3 ∨ k = 8) ∧ pj_gr k ≤ 0) := by
  by_cases h : k = 0 ∨ k = 1 ∨ k = 3 ∨ k = 8
  · exact Or.inl ⟨h, if_pos h⟩
  · refine Or.inr ⟨h, ?_⟩
    unfold pj_gr
    rw [if_neg h]
    split
    · decide
    · split
      · decide
      · decide
theorem pj_w_needs {post : Int32 → Prop} {u : St0} {k : Nat} (hk : k < 14) (H : post (nI (pj_needs k))) : wpX_needs post u (nI k) := by
  unfold wpX_needs
  rcases pj_or14 hk with rfl | rfl | rfl | rfl | rfl | rfl | rfl | rfl | rfl | rfl | rfl | rfl | rfl | rfl <;> (repeat (first | exact H | refine br_t (by decide) ?_ | refine br_f (by decide) ?_))
theorem pj_w_growth {post : Int32 → Prop} {u : St0} {k : Nat} (hk : k < 14) (H : post (pj_gr k)) : wpX_growth post u (nI k) := by
  unfold wpX_growth
  rcases pj_or14 hk with rfl | rfl | rfl | rfl | rfl | rfl | rfl | rfl | rfl | rfl | rfl | rfl | rfl | rfl <;> (repeat (first | exact H | refine br_t (by decide) ?_ | refine br_f (by decide) ?_))
theorem pj_w_room {post : Int32 → Prop} {pl sz qh qc jd st ap tp md ch fk : Int32} {a1 a2 a3 a4 a5 a6 a7 a8 a9 a10 : Nat → Int32} {mh k h : Nat} (hk : k < 14) (hh : h ≤ 4) (hm : mh ≤ 4) (H : post (nI (pj_rf mh k h))) : wpX_roomFault post ((nI mh), pl, sz, qh, qc, jd, st, ap, tp, md, ch, fk, a1, a2, a3, a4, a5, a6, a7, a8, a9, a10) (nI k) (nI h) := by
  unfold wpX_roomFault
  dsimp only
  refine pj_w_needs hk ?_
  have hn : pj_needs k ≤ 2 := by
    unfold pj_needs
    split
    · omega
    · split <;> omega
  refine pk_le (pj_needs k) h (fun z => ?_) (fun z => ?_)
  · refine pj_w_growth hk ?_
    rcases pj_gr_cases k with ⟨g, e⟩ | ⟨g, e⟩
    · rw [e]
      refine br_f (by decide) ?_
      refine pk_lt h mh (fun y => ?_) (fun y => ?_)
      · have : pj_rf mh k h = 0 := by unfold pj_rf; rw [if_neg (by omega), if_neg (fun t => by omega)]
        rw [this] at H; exact H
      · have : pj_rf mh k h = 2 := by unfold pj_rf; rw [if_neg (by omega), if_pos ⟨g, y⟩]
        rw [this] at H; exact H
    · refine br_t e ?_
      have : pj_rf mh k h = 0 := by unfold pj_rf; rw [if_neg (by omega), if_neg (fun t => g t.1)]
      rw [this] at H; exact H
  · have : pj_rf mh k h = 1 := by unfold pj_rf; rw [if_pos z]
    rw [this] at H; exact H

/-! the mask after an instruction -/
def pj_af (k : Nat) (a h m : Int32) : Int32 := match k with
  | 0 => pj_wk m h 1
  | 1 => pj_wk m h 2
  | 2 => pj_wk m (h - 1) 0
  | 3 => pj_wk m h (pj_ka m (h - 1))
  | 4 => pj_wk (pj_wk m (h - 1) (pj_ka m (h - 2))) (h - 2) (pj_ka m (h - 1))
  | 5 => pj_wk (pj_wk m (h - 1) 0) (h - 2) 1
  | 6 => pj_wk m (h - 1) 1
  | 7 => pj_wk (pj_wk m (h - 1) 0) (h - 2) 0
  | 8 => pj_wk m h (pj_ka m (4 + a))
  | 9 => pj_wk (pj_wk m (h - 1) 0) (4 + a) (pj_ka m (h - 1))
  | 12 => pj_wk (pj_wk m (h - 1) 0) (h - 2) 1
  | _ => m
theorem pj_w_wk {post : Int32 → Prop} {u : St0} {m p k : Int32} (H : post (pj_wk m p k)) : wpX_withKind post u m p k := by
  unfold wpX_withKind
  exact nm_e H
theorem pj_w_ka {post : Int32 → Prop} {u : St0} {m p : Int32} (H : post (pj_ka m p)) : wpX_kindAt post u m p := H
theorem pj_w_copied {post : Int32 → Prop} {u : St0} {m p q : Int32} (H : post (pj_wk m p (pj_ka m q))) : wpX_copied post u m p q := by
  unfold wpX_copied
  exact pj_w_ka (pj_w_wk H)
theorem pj_w_swapped {post : Int32 → Prop} {u : St0} {m h : Int32} (H : post (pj_wk (pj_wk m (h - 1) (pj_ka m (h - 2))) (h - 2) (pj_ka m (h - 1)))) : wpX_swapped post u m h := by
  unfold wpX_swapped
  exact pj_w_ka (pj_w_ka (pj_w_wk (pj_w_wk H)))
theorem pj_w_merged {post : Int32 → Prop} {u : St0} {m h : Int32} (H : post (pj_wk (pj_wk m (h - 1) 0) (h - 2) 1)) : wpX_merged post u m h := by
  unfold wpX_merged
  exact pj_w_wk (pj_w_wk H)
theorem pj_w_dropped {post : Int32 → Prop} {u : St0} {m h : Int32} (H : post (pj_wk (pj_wk m (h - 1) 0) (h - 2) 0)) : wpX_dropped post u m h := by
  unfold wpX_dropped
  exact pj_w_wk (pj_w_wk H)
theorem pj_w_kept {post : Int32 → Prop} {u : St0} {m h l : Int32} (H : post (pj_wk (pj_wk m (h - 1) 0) (4 + l) (pj_ka m (h - 1)))) : wpX_kept post u m h l := by
  unfold wpX_kept
  exact pj_w_ka (pj_w_wk (pj_w_wk H))
theorem pj_w_106 {post : Int32 → Prop} {m h : Int32} (H : post (pj_wk (pj_wk m (h - 1) 0) (h - 2) 1)) : wX_after_106 post h m := by
  unfold wX_after_106
  exact pj_w_merged H
theorem pj_w_after {post : Int32 → Prop} {u : St0} {k : Nat} {a h m : Int32} (hk : k < 14) (H : post (pj_af k a h m)) : wpX_after post u (nI k) a h m := by
  unfold wpX_after
  rcases pj_or14 hk with rfl | rfl | rfl | rfl | rfl | rfl | rfl | rfl | rfl | rfl | rfl | rfl | rfl | rfl
  · exact br_f (by decide) (br_f (by decide) (br_t (by decide) (pj_w_wk H)))
  · exact br_f (by decide) (br_f (by decide) (br_f (by decide) (br_t (by decide) (pj_w_wk H))))
  · exact br_f (by decide) (br_f (by decide) (br_f (by decide) (br_f (by decide) (br_t (by decide) (pj_w_wk H)))))
  · exact br_f (by decide) (br_f (by decide) (br_f (by decide) (br_f (by decide) (br_f (by decide) (br_t (by decide) (pj_w_copied H))))))
  · exact br_f (by decide) (br_f (by decide) (br_f (by decide) (br_f (by decide) (br_f (by decide) (br_f (by decide) (br_t (by decide) (pj_w_swapped H)))))))
  · exact br_f (by decide) (br_f (by decide) (br_f (by decide) (br_f (by decide) (br_f (by decide) (br_f (by decide) (br_f (by decide) (br_t (by decide) (pj_w_106 H))))))))
  · exact br_f (by decide) (br_f (by decide) (br_f (by decide) (br_f (by decide) (br_f (by decide) (br_f (by decide) (br_f (by decide) (br_f (by decide) (br_t (by decide) (pj_w_wk H)))))))))
  · exact br_f (by decide) (br_f (by decide) (br_f (by decide) (br_f (by decide) (br_f (by decide) (br_f (by decide) (br_f (by decide) (br_f (by decide) (br_f (by decide) (br_t (by decide) (pj_w_dropped H))))))))))
  · exact br_f (by decide) (br_f (by decide) (br_f (by decide) (br_f (by decide) (br_f (by decide) (br_f (by decide) (br_f (by decide) (br_f (by decide) (br_f (by decide) (br_f (by decide) (br_t (by decide) (pj_w_copied H)))))))))))
  · exact br_f (by decide) (br_f (by decide) (br_f (by decide) (br_f (by decide) (br_f (by decide) (br_f (by decide) (br_f (by decide) (br_f (by decide) (br_f (by decide) (br_f (by decide) (br_f (by decide) (br_t (by decide) (pj_w_kept H))))))))))))
  · exact br_f (by decide) (br_f (by decide) (br_f (by decide) (br_f (by decide) (br_f (by decide) (br_f (by decide) (br_f (by decide) (br_f (by decide) (br_f (by decide) (br_f (by decide) (br_f (by decide) (br_f (by decide) (br_t (by decide) (H)))))))))))))
  · exact br_f (by decide) (br_f (by decide) (br_f (by decide) (br_f (by decide) (br_f (by decide) (br_f (by decide) (br_f (by decide) (br_f (by decide) (br_f (by decide) (br_f (by decide) (br_f (by decide) (br_f (by decide) (br_f (by decide) (br_t (by decide) (H))))))))))))))
  · exact br_f (by decide) (br_f (by decide) (br_f (by decide) (br_f (by decide) (br_f (by decide) (br_f (by decide) (br_f (by decide) (br_f (by decide) (br_f (by decide) (br_f (by decide) (br_f (by decide) (br_f (by decide) (br_f (by decide) (br_f (by decide) (br_t (by decide) (pj_w_106 H)))))))))))))))
  · exact br_f (by decide) (br_t (by decide) H)
theorem pj_af_mono (k : Nat) (a h : Int32) {x y : Int32} (l : pj_le x y) : pj_le (pj_af k a h x) (pj_af k a h y) := by
  unfold pj_af
  split
  · exact pj_wk_mono l (pj_le_refl _) _
  · exact pj_wk_mono l (pj_le_refl _) _
  · exact pj_wk_mono l (pj_le_refl _) _
  · exact pj_wk_mono l (pj_ka_mono l _) _
  · exact pj_wk_mono (pj_wk_mono l (pj_ka_mono l _) _) (pj_ka_mono l _) _
  · exact pj_wk_mono (pj_wk_mono l (pj_le_refl _) _) (pj_le_refl _) _
  · exact pj_wk_mono l (pj_le_refl _) _
  · exact pj_wk_mono (pj_wk_mono l (pj_le_refl _) _) (pj_le_refl _) _
  · exact pj_wk_mono l (pj_ka_mono l _) _
  · exact pj_wk_mono (pj_wk_mono l (pj_le_refl _) _) (pj_ka_mono l _) _
  · exact pj_wk_mono (pj_wk_mono l (pj_le_refl _) _) (pj_le_refl _) _
  · exact l
/-- the same on kinds place by place -/
def pj_kaf (k a h : Nat) (g : Nat → Int32) : Nat → Int32 := match k with
  | 0 => upd g h 1
  | 1 => upd g h 2
  | 2 => upd g (h - 1) 0
  | 3 => upd g h (g (h - 1))
  | 4 => upd (upd g (h - 1) (g (h - 2))) (h - 2) (g (h - 1))
  | 5 => upd (upd g (h - 1) 0) (h - 2) 1
  | 6 => upd g (h - 1) 1
  | 7 => upd (upd g (h - 1) 0) (h - 2) 0
  | 8 => upd g h (g (4 + a))
  | 9 => upd (upd g (h - 1) 0) (4 + a) (g (h - 1))
  | 12 => upd (upd g (h - 1) 0) (h - 2) 1
  | _ => g
theorem pj_kv_wk2 (m : Int32) {p p' q : Nat} (hp : p < 6) (hp' : p' < 6) (hq : q < 6) {k k' : Int32} (hk : pj_kind k) (hk' : pj_kind k') : pj_kv (pj_wk (pj_wk m (nI p) k) (nI p') k') q = upd (upd (pj_kv m) p k) p' k' q := by
  rw [pj_kv_wk _ hp' hq hk']
  unfold upd
  by_cases e : q = p'
  · rw [if_pos e, if_pos e]
  · rw [if_neg e, if_neg e]
    exact pj_kv_wk m hp hq hk
theorem pj_h1 {h : Nat} (hh : 1 ≤ h) : nI h - 1 = nI (h - 1) := pk_sub (a := h) (b := 1) hh
theorem pj_h2 {h : Nat} (hh : 2 ≤ h) : nI h - 2 = nI (h - 2) := pk_sub (a := h) (b := 2) hh
theorem pj_4a (a : Nat) : (4 : Int32) + nI a = nI (4 + a) := nI_add 4 a
/-- place by place, and eighteen bits are kept -/
theorem pj_kv_af {mh k a h : Nat} {m : Int32} (hk : k < 14) (hm : mh ≤ 4) (hh : h ≤ 4) (ha : k = 8 ∨ k = 9 → a < 2) (r : pj_rf mh k h = 0) : (∀ q, q < 6 → pj_kv (pj_af k (nI a) (nI h) m) q = pj_kaf k a h (pj_kv m) q) ∧ (pj_low m → pj_low (pj_af k (nI a) (nI h) m)) := by
  have n := pj_rf_needs r
  have g := pj_rf_room r
  rcases pj_or14 hk with rfl | rfl | rfl | rfl | rfl | rfl | rfl | rfl | rfl | rfl | rfl | rfl | rfl | rfl
  · have := g (by omega)
    exact ⟨fun q hq => pj_kv_wk m (by omega) hq pj_kind_1, fun l => pj_low_wk l (by omega) pj_kind_1⟩
  · have := g (by omega)
    exact ⟨fun q hq => pj_kv_wk m (by omega) hq pj_kind_2, fun l => pj_low_wk l (by omega) pj_kind_2⟩
  · have n : 1 ≤ h := n
    unfold pj_af pj_kaf
    rw [pj_h1 n]
    exact ⟨fun q hq => pj_kv_wk m (by omega) hq pj_kind_0, fun l => pj_low_wk l (by omega) pj_kind_0⟩
  · have := g (by omega)
    have n : 1 ≤ h := n
    unfold pj_af pj_kaf
    rw [pj_h1 n]
    exact ⟨fun q hq => pj_kv_wk m (by omega) hq (pj_kind_ka _ _), fun l => pj_low_wk l (by omega) (pj_kind_ka _ _)⟩
  · have n : 2 ≤ h := n
    unfold pj_af pj_kaf
    rw [pj_h1 (by omega), pj_h2 n]
    exact ⟨fun q hq => pj_kv_wk2 m (by omega) (by omega) hq (pj_kind_ka _ _) (pj_kind_ka _ _), fun l => pj_low_wk (pj_low_wk l (by omega) (pj_kind_ka _ _)) (by omega) (pj_kind_ka _ _)⟩
  · have n : 2 ≤ h := n
    unfold pj_af pj_kaf
    rw [pj_h1 (by omega), pj_h2 n]
    exact ⟨fun q hq => pj_kv_wk2 m (by omega) (by omega) hq pj_kind_0 pj_kind_1, fun l => pj_low_wk (pj_low_wk l (by omega) pj_kind_0) (by omega) pj_kind_1⟩
  · have n : 1 ≤ h := n
    unfold pj_af pj_kaf
    rw [pj_h1 n]
    exact ⟨fun q hq => pj_kv_wk m (by omega) hq pj_kind_1, fun l => pj_low_wk l (by omega) pj_kind_1⟩
  · have n : 2 ≤ h := n
    unfold pj_af pj_kaf
    rw [pj_h1 (by omega), pj_h2 n]
    exact ⟨fun q hq => pj_kv_wk2 m (by omega) (by omega) hq pj_kind_0 pj_kind_0, fun l => pj_low_wk (pj_low_wk l (by omega) pj_kind_0) (by omega) pj_kind_0⟩
  · have := g (by omega)
    have ha := ha (by omega)
    unfold pj_af pj_kaf
    rw [pj_4a]
    exact ⟨fun q hq => pj_kv_wk m (by omega) hq (pj_kind_ka _ _), fun l => pj_low_wk l (by omega) (pj_kind_ka _ _)⟩
  · have n : 1 ≤ h := n
    have ha := ha (by omega)
    unfold pj_af pj_kaf
    rw [pj_4a, pj_h1 n]
    exact ⟨fun q hq => pj_kv_wk2 m (by omega) (by omega) hq pj_kind_0 (pj_kind_ka _ _), fun l => pj_low_wk (pj_low_wk l (by omega) pj_kind_0) (by omega) (pj_kind_ka _ _)⟩
  · exact ⟨fun q hq => rfl, fun l => l⟩
  · exact ⟨fun q hq => rfl, fun l => l⟩
  · have n : 2 ≤ h := n
    unfold pj_af pj_kaf
    rw [pj_h1 (by omega), pj_h2 n]
    exact ⟨fun q hq => pj_kv_wk2 m (by omega) (by omega) hq pj_kind_0 pj_kind_1, fun l => pj_low_wk (pj_low_wk l (by omega) pj_kind_0) (by omega) pj_kind_1⟩
  · exact ⟨fun q hq => rfl, fun l => l⟩
/-- no cell below the height and no kept place is without a kind -/
def pj_full (h : Nat) (g : Nat → Int32) : Prop := (∀ i, i < h → g i ≠ 0) ∧ g 4 ≠ 0 ∧ g 5 ≠ 0
theorem pj_upd_nz {g : Nat → Int32} {p i : Nat} {x : Int32} (hx : i = p → x ≠ 0) (hg : i ≠ p → g i ≠ 0) : upd g p x i ≠ 0 := by
  unfold upd
  by_cases e : i = p
  · rw [if_pos e]; exact hx e
  · rw [if_neg e]; exact hg e
theorem pj_full_kaf {mh k a h : Nat} {g : Nat → Int32} (hk : k < 14) (hm : mh ≤ 4) (hh : h ≤ 4) (ha : k = 8 ∨ k = 9 → a < 2) (r : pj_rf mh k h = 0) (f : pj_full h g) : pj_full (pj_nh k h) (pj_kaf k a h g) := by
  have n := pj_rf_needs r
  have room := pj_rf_room r
  obtain ⟨f1, f2, f3⟩ := f
  have one : (1 : Int32) ≠ 0 := by decide
  have two : (2 : Int32) ≠ 0 := by decide
  rcases pj_or14 hk with rfl | rfl | rfl | rfl | rfl | rfl | rfl | rfl | rfl | rfl | rfl | rfl | rfl | rfl
  · have := room (by omega)
    exact ⟨fun i hi => pj_upd_nz (fun _ => one) (fun z => f1 i (by change i < h + 1 at hi; omega)), pj_upd_nz (fun _ => one) (fun _ => f2), pj_upd_nz (fun _ => one) (fun _ => f3)⟩
  · have := room (by omega)
    exact ⟨fun i hi => pj_upd_nz (fun _ => two) (fun z => f1 i (by change i < h + 1 at hi; omega)), pj_upd_nz (fun _ => two) (fun _ => f2), pj_upd_nz (fun _ => two) (fun _ => f3)⟩
  · have n : 1 ≤ h := n
    exact ⟨fun i hi => pj_upd_nz (fun z => by change i < h - 1 at hi; omega) (fun z => f1 i (by change i < h - 1 at hi; omega)), pj_upd_nz (fun z => by omega) (fun _ => f2), pj_upd_nz (fun z => by omega) (fun _ => f3)⟩
  · have := room (by omega)
    have n : 1 ≤ h := n
    exact ⟨fun i hi => pj_upd_nz (fun _ => f1 _ (by omega)) (fun z => f1 i (by change i < h + 1 at hi; omega)), pj_upd_nz (fun _ => f1 _ (by omega)) (fun _ => f2), pj_upd_nz (fun _ => f1 _ (by omega)) (fun _ => f3)⟩
  · have n : 2 ≤ h := n
    exact ⟨fun i hi => pj_upd_nz (fun _ => f1 _ (by omega)) (fun z => pj_upd_nz (fun _ => f1 _ (by omega)) (fun z => f1 i (by change i < h at hi; omega))), pj_upd_nz (fun z => by omega) (fun _ => pj_upd_nz (fun z => by omega) (fun _ => f2)), pj_upd_nz (fun z => by omega) (fun _ => pj_upd_nz (fun z => by omega) (fun _ => f3))⟩
  · have n : 2 ≤ h := n
    exact ⟨fun i hi => pj_upd_nz (fun _ => one) (fun z => pj_upd_nz (fun z => by change i < h - 1 at hi; omega) (fun z => f1 i (by change i < h - 1 at hi; omega))), pj_upd_nz (fun z => by omega) (fun _ => pj_upd_nz (fun z => by omega) (fun _ => f2)), pj_upd_nz (fun z => by omega) (fun _ => pj_upd_nz (fun z => by omega) (fun _ => f3))⟩
  · have n : 1 ≤ h := n
    exact ⟨fun i hi => pj_upd_nz (fun _ => one) (fun z => f1 i (by change i < h at hi; omega)), pj_upd_nz (fun z => by omega) (fun _ => f2), pj_upd_nz (fun z => by omega) (fun _ => f3)⟩
  · have n : 2 ≤ h := n
    exact ⟨fun i hi => pj_upd_nz (fun z => by change i < h - 2 at hi; omega) (fun z => pj_upd_nz (fun z => by change i < h - 2 at hi; omega) (fun z => f1 i (by change i < h - 2 at hi; omega))), pj_upd_nz (fun z => by omega) (fun _ => pj_upd_nz (fun z => by omega) (fun _ => f2)), pj_upd_nz (fun z => by omega) (fun _ => pj_upd_nz (fun z => by omega) (fun _ => f3))⟩
  · have := room (by omega)
    have ha := ha (by omega)
    have e : a = 0 ∨ a = 1 := by omega
    have k4 : g (4 + a) ≠ 0 := by rcases e with rfl | rfl; exact f2; exact f3
    exact ⟨fun i hi => pj_upd_nz (fun _ => k4) (fun z => f1 i (by change i < h + 1 at hi; omega)), pj_upd_nz (fun _ => k4) (fun _ => f2), pj_upd_nz (fun _ => k4) (fun _ => f3)⟩
  · have n : 1 ≤ h := n
    have ha := ha (by omega)
    have k4 := f1 (h - 1) (by omega)
    exact ⟨fun i hi => pj_upd_nz (fun _ => k4) (fun _ => pj_upd_nz (fun z => by change i < h - 1 at hi; omega) (fun z => f1 i (by change i < h - 1 at hi; omega))), pj_upd_nz (fun _ => k4) (fun _ => pj_upd_nz (fun z => by omega) (fun _ => f2)), pj_upd_nz (fun _ => k4) (fun _ => pj_upd_nz (fun z => by omega) (fun _ => f3))⟩
  · exact ⟨f1, f2, f3⟩
  · exact ⟨f1, f2, f3⟩
  · have n : 2 ≤ h := n
    exact ⟨fun i hi => pj_upd_nz (fun _ => one) (fun z => pj_upd_nz (fun z => by change i < h - 1 at hi; omega) (fun z => f1 i (by change i < h - 1 at hi; omega))), pj_upd_nz (fun z => by omega) (fun _ => pj_upd_nz (fun z => by omega) (fun _ => f2)), pj_upd_nz (fun z => by omega) (fun _ => pj_upd_nz (fun z => by omega) (fun _ => f3))⟩
  · exact ⟨f1, f2, f3⟩
def pj_good (h : Nat) (m : Int32) : Prop := pj_low m ∧ pj_full h (pj_kv m)
theorem pj_full_ext {h : Nat} {g g' : Nat → Int32} (hh : h ≤ 4) (e : ∀ q, q < 6 → g' q = g q) (f : pj_full h g) : pj_full h g' :=
  ⟨fun i hi => by rw [e i (by omega)]; exact f.1 i hi, by rw [e 4 (by omega)]; exact f.2.1, by rw [e 5 (by omega)]; exact f.2.2⟩
theorem pj_good_af {mh k a h : Nat} {m : Int32} (hk : k < 14) (hm : mh ≤ 4) (hh : h ≤ 4) (ha : k = 8 ∨ k = 9 → a < 2) (r : pj_rf mh k h = 0) (f : pj_good h m) : pj_good (pj_nh k h) (pj_af k (nI a) (nI h) m) := by
  have e := pj_kv_af (m := m) hk hm hh ha r
  exact ⟨e.2 f.1, pj_full_ext (pj_nh_le hm r hh) e.1 (pj_full_kaf hk hm hh ha r f.2)⟩
theorem pj_good_or {h : Nat} {x m : Int32} (hx : pj_low x) (f : pj_good h m) : pj_good h (x ||| m) :=
  ⟨pj_low_or hx f.1, fun i hi => pj_le_nz (pj_kv_mono (pj_le_orr x m) i) (f.2.1 i hi), pj_le_nz (pj_kv_mono (pj_le_orr x m) 4) f.2.2.1, pj_le_nz (pj_kv_mono (pj_le_orr x m) 5) f.2.2.2⟩
theorem pj_good_nz {h : Nat} {m : Int32} (f : pj_good h m) : m ≠ 0 := by
  intro e
  apply f.2.2.1
  rw [e]
  decide +kernel
end
section
/-! the program, its next places, closed tables of masks, the ring as a list -/
def pj_op (a1 : Nat → Int32) (p : Nat) : Nat := (a1 p).toNatClampNeg
def pj_arg (a2 : Nat → Int32) (p : Nat) : Nat := (a2 p).toNatClampNeg
def pj_prog (a1 a2 : Nat → Int32) : Prop := ∀ p, p < 16 → a1 p = nI (pj_op a1 p) ∧ pj_op a1 p < 14 ∧ (pj_op a1 p = 8 ∨ pj_op a1 p = 9 → a2 p = nI (pj_arg a2 p) ∧ pj_arg a2 p < 2)
theorem pj_prog_0 : pj_prog (fun _ => 0) (fun _ => 0) := fun p _ => by
  have e : pj_op (fun _ => 0) p = 0 := by
    show (0 : Int32).toNatClampNeg = 0
    decide +kernel
  rw [e]
  exact ⟨rfl, by omega, fun z => absurd z (by decide)⟩
theorem pj_op_us {a1 : Nat → Int32} {p k : Nat} (hk : k < 14) : pj_op (upd a1 p (nI k)) p = k := by
  unfold pj_op
  rw [pk_us, nI_clamp (by omega)]
theorem pj_op_un {a1 : Nat → Int32} {p q : Nat} {x : Int32} (h : q ≠ p) : pj_op (upd a1 p x) q = pj_op a1 q := by
  unfold pj_op
  rw [pk_un h]
theorem pj_prog_upd {a1 a2 : Nat → Int32} (h : pj_prog a1 a2) (p : Nat) {k : Nat} (hk : k < 14) {x : Int32} (hx : k = 8 ∨ k = 9 → ∃ j, j < 2 ∧ x = nI j) : pj_prog (upd a1 p (nI k)) (upd a2 p x) := by
  intro q hq
  by_cases e : q = p
  · subst e
    rw [pj_op_us hk, pk_us, pk_us]
    refine ⟨rfl, hk, fun z => ?_⟩
    obtain ⟨j, hj, ej⟩ := hx z
    unfold pj_arg
    rw [pk_us, ej, nI_clamp (by omega)]
    exact ⟨rfl, hj⟩
  · unfold pj_arg
    rw [pj_op_un e, pk_un e, pk_un e]
    exact h q hq
theorem pj_af_arg {k : Nat} (x y h m : Int32) (h8 : k ≠ 8) (h9 : k ≠ 9) : pj_af k x h m = pj_af k y h m := by
  unfold pj_af
  split <;> first | rfl | (exact absurd rfl h8) | (exact absurd rfl h9)
def pj_T (a1 a2 : Nat → Int32) (p h : Nat) (m : Int32) : Int32 := pj_af (pj_op a1 p) (a2 p) (nI h) m
theorem pj_T_eq {a1 a2 : Nat → Int32} (g : pj_prog a1 a2) {p : Nat} (hp : p < 16) (h : Nat) (m : Int32) : pj_T a1 a2 p h m = pj_af (pj_op a1 p) (nI (pj_arg a2 p)) (nI h) m := by
  unfold pj_T
  by_cases e : pj_op a1 p = 8 ∨ pj_op a1 p = 9
  · rw [((g p hp).2.2 e).1]
  · exact pj_af_arg _ _ _ _ (fun z => e (Or.inl z)) (fun z => e (Or.inr z))
def pj_suc (a1 a2 : Nat → Int32) (p q : Nat) : Prop := q < 15 ∧ ((pj_op a1 p = 10 ∧ a2 p = nI q) ∨ (pj_op a1 p ≠ 10 ∧ pj_op a1 p ≠ 13 ∧ q = p + 1) ∨ (pj_op a1 p = 11 ∧ a2 p = nI q))
def pj_fresh : Int32 := pj_wk (pj_wk 0 (nI 4) 4) (nI 5) 4
theorem pj_good_fresh : pj_good 0 pj_fresh := by
  refine ⟨pj_low_wk (pj_low_wk pj_low_0 (by omega) pj_kind_4) (by omega) pj_kind_4, fun i hi => absurd hi (by omega), ?_, ?_⟩
  · decide +kernel
  · decide +kernel
theorem pj_fresh_kinds {m : Int32} (h : pj_le pj_fresh m) : pj_kv m 4 ≠ 2 ∧ pj_kv m 5 ≠ 2 := by
  have h4 := pj_kv_mono h 4
  have h5 := pj_kv_mono h 5
  have e4 : pj_kv pj_fresh 4 = 4 := by decide +kernel
  have e5 : pj_kv pj_fresh 5 = 4 := by decide +kernel
  rw [e4] at h4
  rw [e5] at h5
  have no : ¬ pj_le 4 2 := by unfold pj_le; decide +kernel
  exact ⟨fun z => no (z ▸ h4), fun z => no (z ▸ h5)⟩
def pj_done (mh : Nat) (a1 a2 M : Nat → Int32) (p h : Nat) (m : Int32) : Prop := pj_rf mh (pj_op a1 p) h = 0 → ∀ q, pj_suc a1 a2 p q → pj_le (pj_T a1 a2 p h m) (M (q * 5 + pj_nh (pj_op a1 p) h))
def pj_closed (mh : Nat) (a1 a2 C : Nat → Int32) : Prop := pj_le pj_fresh (C 0) ∧ ∀ p h, p < 15 → h ≤ 4 → C (p * 5 + h) ≠ 0 → pj_done mh a1 a2 C p h (C (p * 5 + h))

/-! the ring -/
def pj_Q (H : Nat) (a4 a5 : Nat → Int32) (Q : List Nat) : Prop := Q.Nodup ∧ (∀ x, x ∈ Q → x < 75) ∧ (∀ n, n < 80 → (n ∈ Q → a4 n = 1) ∧ (n ∉ Q → a4 n = 0)) ∧ (∀ i x, Q[i]? = some x → a5 ((H + i) % 128) = nI x)
theorem pj_Q_len {H : Nat} {a4 a5 : Nat → Int32} {Q : List Nat} (h : pj_Q H a4 a5 Q) : Q.length ≤ 75 := by
  have := List.Nodup.length_le_of_subset (l₂ := List.range 75) h.1 (fun x hx => List.mem_range.mpr (h.2.1 x hx))
  rw [List.length_range] at this
  exact this
theorem pj_Q_push {H : Nat} {a4 a5 : Nat → Int32} {Q : List Nat} (h : pj_Q H a4 a5 Q) {n : Nat} (hn : n < 75) (hq : n ∉ Q) : pj_Q H (upd a4 n 1) (upd a5 ((H + Q.length) % 128) (nI n)) (Q ++ [n]) := by
  have len := pj_Q_len h
  refine ⟨?_, ?_, ?_, ?_⟩
  · rw [List.nodup_append]
    refine ⟨h.1, by simp, fun a ha b hb => ?_⟩
    rw [List.mem_singleton] at hb
    intro e
    rw [e, hb] at ha
    exact hq ha
  · intro x hx
    rcases List.mem_append.mp hx with z | z
    · exact h.2.1 x z
    · rw [List.mem_singleton.mp z]; exact hn
  · intro j hj
    by_cases e : j = n
    · subst e
      refine ⟨fun _ => pk_us, fun z => absurd (List.mem_append.mpr (Or.inr (List.mem_singleton.mpr rfl))) z⟩
    · rw [pk_un e]
      refine ⟨fun z => ?_, fun z => (h.2.2.1 j hj).2 (fun y => z (List.mem_append.mpr (Or.inl y)))⟩
      rcases List.mem_append.mp z with y | y
      · exact (h.2.2.1 j hj).1 y
      · exact absurd (List.mem_singleton.mp y) e
  · intro i x hx
    rcases Nat.lt_or_ge i Q.length with z | z
    · rw [List.getElem?_append_left z] at hx
      rw [pk_un (by omega)]
      exact h.2.2.2 i x hx
    · rw [List.getElem?_append_right z] at hx
      rcases Nat.lt_or_ge 0 (i - Q.length) with y | y
      · rw [List.getElem?_eq_none (by simp; omega)] at hx
        exact absurd hx (by simp)
      · have e : i = Q.length := by omega
        rw [show i - Q.length = 0 by omega] at hx
        have e2 : n = x := by simpa using hx
        rw [e, pk_us, e2]
theorem pj_Q_pop {H : Nat} {a4 a5 : Nat → Int32} {x : Nat} {Q : List Nat} (hH : H < 128) (h : pj_Q H a4 a5 (x :: Q)) : a5 H = nI x ∧ x < 75 ∧ x ∉ Q ∧ pj_Q ((H + 1) % 128) (upd a4 x 0) a5 Q := by
  have nd := List.nodup_cons.mp h.1
  refine ⟨?_, h.2.1 x (List.mem_cons_self ..), nd.1, nd.2, fun y hy => h.2.1 y (List.mem_cons_of_mem _ hy), ?_, ?_⟩
  · have := h.2.2.2 0 x rfl
    rwa [show (H + 0) % 128 = H by omega] at this
  · intro j hj
    by_cases e : j = x
    · subst e
      exact ⟨fun z => absurd z nd.1, fun _ => pk_us⟩
    · rw [pk_un e]
      refine ⟨fun z => (h.2.2.1 j hj).1 (List.mem_cons_of_mem _ z), fun z => (h.2.2.1 j hj).2 (fun y => ?_)⟩
      rcases List.mem_cons.mp y with t | t
      · exact e t
      · exact z t
  · intro i y hy
    have := h.2.2.2 (i + 1) y hy
    rwa [show (H + (i + 1)) % 128 = ((H + 1) % 128 + i) % 128 by omega] at this

/-! reach, as a relation; the invariant of the rounds -/
def pj_R (M : Nat → Int32) (Q : List Nat) (n : Nat) (m : Int32) (M' : Nat → Int32) (Q' : List Nat) : Prop := (∀ j, j ≠ n → M' j = M j) ∧ M' n = M n ||| m ∧ ((Q' = Q ∧ (M' n = M n ∨ n ∈ Q)) ∨ (Q' = Q ++ [n] ∧ n ∉ Q ∧ ¬ M n ||| m = M n))
theorem pj_R_mono {M M' : Nat → Int32} {Q Q' : List Nat} {n : Nat} {m : Int32} (r : pj_R M Q n m M' Q') (j : Nat) : pj_le (M j) (M' j) := by
  by_cases e : j = n
  · rw [e, r.2.1]; exact pj_le_orl _ _
  · rw [r.1 j e]; exact pj_le_refl _
theorem pj_R_ge {M M' : Nat → Int32} {Q Q' : List Nat} {n : Nat} {m : Int32} (r : pj_R M Q n m M' Q') : pj_le m (M' n) := by
  rw [r.2.1]; exact pj_le_orr _ _
theorem pj_R_keep {M M' : Nat → Int32} {Q Q' : List Nat} {n : Nat} {m : Int32} (r : pj_R M Q n m M' Q') {j : Nat} (h : j ∉ Q') : j ∉ Q ∧ M' j = M j := by
  rcases r.2.2 with ⟨e, z⟩ | ⟨e, z, _⟩
  · rw [e] at h
    refine ⟨h, ?_⟩
    by_cases t : j = n
    · rw [t] at h ⊢
      rcases z with z | z
      · exact z
      · exact absurd z h
    · exact r.1 j t
  · rw [e] at h
    refine ⟨fun y => h (List.mem_append.mpr (Or.inl y)), r.1 j (fun y => h (List.mem_append.mpr (Or.inr (List.mem_singleton.mpr y))))⟩
theorem pj_R_sum {M M' : Nat → Int32} {Q Q' : List Nat} {n : Nat} {m : Int32} (r : pj_R M Q n m M' Q') (hm : pj_low m) (hn : n < 80) {i : Nat} (h : i + Q.length ≤ pj_sum M 80) : i + Q'.length ≤ pj_sum M' 80 := by
  by_cases g : M n ||| m = M n
  · have e : pj_sum M' 80 = pj_sum M 80 := pj_sum_eq 80 (fun j _ => by
      by_cases t : j = n
      · rw [t, r.2.1, g]
      · exact r.1 j t)
    rcases r.2.2 with ⟨z, _⟩ | ⟨_, _, z⟩
    · rw [z, e]; exact h
    · exact absurd g z
  · have l := pj_sum_lt (M := M) (N := M') r.1 (by rw [r.2.1]; exact pj_pc_grow hm g) 80 hn
    rcases r.2.2 with ⟨z, _⟩ | ⟨z, _, _⟩
    · rw [z]; omega
    · rw [z, List.length_append]
      simp only [List.length_cons, List.length_nil]
      omega
def pj_I (mh : Nat) (a1 a2 M : Nat → Int32) (Q : List Nat) (D : Nat → Prop) : Prop := (∀ n, n < 80 → M n ≠ 0 → n < 75 ∧ pj_good (n % 5) (M n)) ∧ (∀ x, x ∈ Q → M x ≠ 0) ∧ (∀ C, pj_closed mh a1 a2 C → ∀ n, n < 80 → pj_le (M n) (C n)) ∧ (∀ n, n < 75 → n ∉ Q → D n → M n ≠ 0 → pj_done mh a1 a2 M (n / 5) (n % 5) (M n))
theorem pj_R_I {mh : Nat} {a1 a2 M M' : Nat → Int32} {Q Q' : List Nat} {D : Nat → Prop} {n : Nat} {m : Int32} (h : pj_I mh a1 a2 M Q D) (r : pj_R M Q n m M' Q') (hn : n < 75) (hm : pj_good (n % 5) m) (hC : ∀ C, pj_closed mh a1 a2 C → pj_le m (C n)) : pj_I mh a1 a2 M' Q' D := by
  have low : pj_low (M n) := by
    by_cases e : M n = 0
    · rw [e]; exact pj_low_0
    · exact (h.1 n (by omega) e).2.1
  refine ⟨fun j hj hz => ?_, fun x hx => ?_, fun C c j hj => ?_, fun j hj hq hd hz => ?_⟩
  · by_cases e : j = n
    · subst e
      rw [r.2.1]
      exact ⟨hn, pj_good_or low hm⟩
    · rw [r.1 j e] at hz ⊢
      exact h.1 j hj hz
  · rcases r.2.2 with ⟨z, _⟩ | ⟨z, _, _⟩
    · rw [z] at hx
      exact pj_le_nz (pj_R_mono r x) (h.2.1 x hx)
    · rw [z] at hx
      rcases List.mem_append.mp hx with y | y
      · exact pj_le_nz (pj_R_mono r x) (h.2.1 x y)
      · rw [List.mem_singleton.mp y]
        exact pj_le_nz (pj_R_ge r) (pj_good_nz hm)
  · by_cases e : j = n
    · subst e
      rw [r.2.1]
      exact pj_le_or (h.2.2.1 C c j hj) (hC C c)
    · rw [r.1 j e]
      exact h.2.2.1 C c j hj
  · obtain ⟨hq', e⟩ := pj_R_keep r hq
    rw [e] at hz ⊢
    intro f q s
    exact pj_le_trans (h.2.2.2 j hj hq' hd hz f q s) (pj_R_mono r _)
theorem pj_I_close {mh : Nat} {a1 a2 M : Nat → Int32} {Q : List Nat} {x : Nat} {m : Int32} (h : pj_I mh a1 a2 M Q (fun n => n ≠ x)) (hk : x ∉ Q → M x = m) (hd : pj_done mh a1 a2 M (x / 5) (x % 5) m) : pj_I mh a1 a2 M Q (fun _ => True) :=
  ⟨h.1, h.2.1, h.2.2.1, fun n hn hq _ hz => by
    by_cases e : n = x
    · subst e
      rw [hk hq]
      exact hd
    · exact h.2.2.2 n hn hq e hz⟩
theorem pj_I_pop {mh : Nat} {a1 a2 M : Nat → Int32} {Q : List Nat} {x : Nat} (h : pj_I mh a1 a2 M (x :: Q) (fun _ => True)) : pj_I mh a1 a2 M Q (fun n => n ≠ x) ∧ M x ≠ 0 :=
  ⟨⟨h.1, fun y hy => h.2.1 y (List.mem_cons_of_mem _ hy), h.2.2.1, fun n hn hq hd hz => h.2.2.2 n hn (fun z => by
    rcases List.mem_cons.mp z with t | t
    · exact hd t
    · exact hq t) trivial hz⟩, h.2.1 x (List.mem_cons_self ..)⟩
theorem pj_I_closed {mh : Nat} {a1 a2 M : Nat → Int32} (h : pj_I mh a1 a2 M [] (fun _ => True)) (hf : pj_le pj_fresh (M 0)) : pj_closed mh a1 a2 M := by
  refine ⟨hf, fun p h' hp hh hz => ?_⟩
  have := h.2.2.2 (p * 5 + h') (by omega) (by simp) trivial hz
  rwa [show (p * 5 + h') / 5 = p by omega, show (p * 5 + h') % 5 = h' by omega] at this
/-- what flows out of a node lies below every closed table -/
theorem pj_T_closed {mh : Nat} {a1 a2 C : Nat → Int32} (c : pj_closed mh a1 a2 C) {p h q : Nat} {m : Int32} (hp : p < 15) (hh : h ≤ 4) (hm : m ≠ 0) (l : pj_le m (C (p * 5 + h))) (r : pj_rf mh (pj_op a1 p) h = 0) (s : pj_suc a1 a2 p q) : pj_le (pj_T a1 a2 p h m) (C (q * 5 + pj_nh (pj_op a1 p) h)) :=
  pj_le_trans (pj_af_mono _ _ _ l) (c.2 p h hp hh (pj_le_nz l hm) r q s)
theorem pj_good_T {mh : Nat} {a1 a2 : Nat → Int32} (g : pj_prog a1 a2) (hm : mh ≤ 4) {p h : Nat} {m : Int32} (hp : p < 16) (hh : h ≤ 4) (r : pj_rf mh (pj_op a1 p) h = 0) (f : pj_good h m) : pj_good (pj_nh (pj_op a1 p) h) (pj_T a1 a2 p h m) := by
  rw [pj_T_eq g hp]
  exact pj_good_af (g p hp).2.1 hm hh (fun z => ((g p hp).2.2 z).2) r f

/-! faults -/
def pj_fst (h : Nat) (m : Int32) : Int32 := if 0 < h then pj_ka m (nI h - 1) else 0
def pj_snd (h : Nat) (m : Int32) : Int32 := if 1 < h then pj_ka m (nI h - 2) else 0
def pj_kok (k : Nat) (x y : Int32) : Prop := (k = 5 → x = 1 ∧ y = 1) ∧ (k = 6 → x = 2) ∧ (k = 7 → x = 1 ∧ y = 2) ∧ (k = 12 → x = 2 ∧ y = 2) ∧ (k = 13 → x = 1)
def pj_in (x : Int32) : Prop := ∃ q, q < 15 ∧ x = nI q
def pj_lv (a1 a2 : Nat → Int32) (p : Nat) : Prop := (pj_op a1 p = 10 ∧ ¬ pj_in (a2 p)) ∨ (pj_op a1 p ≠ 10 ∧ pj_op a1 p ≠ 13 ∧ ¬ p + 1 < 15) ∨ (pj_op a1 p = 11 ∧ ¬ pj_in (a2 p))
def pj_ok (mh : Nat) (a1 a2 : Nat → Int32) (p h : Nat) (m : Int32) : Prop := pj_rf mh (pj_op a1 p) h = 0 ∧ pj_kok (pj_op a1 p) (pj_fst h m) (pj_snd h m) ∧ ¬ pj_lv a1 a2 p
def pj_noted (mh : Nat) (a1 a2 M a6 : Nat → Int32) : Prop := ∀ p, p < 16 → ∃ f, f < 16 ∧ a6 p = nI f ∧ (f = 0 ↔ ∀ h, h ≤ 4 → M (p * 5 + h) ≠ 0 → pj_ok mh a1 a2 p h (M (p * 5 + h)))
def pj_J (mh : Nat) (a1 a2 M a6 : Nat → Int32) : Prop := pj_closed mh a1 a2 M ∧ (∀ n, n < 80 → M n ≠ 0 → n < 75 ∧ pj_good (n % 5) (M n)) ∧ (∀ C, pj_closed mh a1 a2 C → ∀ n, n < 80 → pj_le (M n) (C n)) ∧ pj_noted mh a1 a2 M a6
theorem pj_fst_kv {h : Nat} (hh : 1 ≤ h) (m : Int32) : pj_fst h m = pj_kv m (h - 1) := by
  unfold pj_fst pj_kv
  rw [if_pos (by omega), pj_h1 hh]
theorem pj_snd_kv {h : Nat} (hh : 2 ≤ h) (m : Int32) : pj_snd h m = pj_kv m (h - 2) := by
  unfold pj_snd pj_kv
  rw [if_pos (by omega), pj_h2 hh]
theorem pj_ok_mono {mh : Nat} {a1 a2 : Nat → Int32} {p h : Nat} {m c : Int32} (f : pj_good h m) (l : pj_le m c) (o : pj_ok mh a1 a2 p h c) : pj_ok mh a1 a2 p h m := by
  obtain ⟨r, k, v⟩ := o
  refine ⟨r, ?_, v⟩
  have n := pj_rf_needs r
  have d1 : ∀ i, i < h → pj_kv c i = 1 → pj_kv m i = 1 := fun i hi e => pj_below1 (pj_kv_kind m i) (f.2.1 i hi) (pj_kv_mono l i) e
  have d2 : ∀ i, i < h → pj_kv c i = 2 → pj_kv m i = 2 := fun i hi e => pj_below2 (pj_kv_kind m i) (f.2.1 i hi) (pj_kv_mono l i) e
  generalize pj_op a1 p = o at k n
  obtain ⟨k5, k6, k7, k12, k13⟩ := k
  refine ⟨fun z => ?_, fun z => ?_, fun z => ?_, fun z => ?_, fun z => ?_⟩
  · subst z
    have n : 2 ≤ h := n
    have e := k5 rfl
    rw [pj_fst_kv (by omega), pj_snd_kv n] at e ⊢
    exact ⟨d1 _ (by omega) e.1, d1 _ (by omega) e.2⟩
  · subst z
    have n : 1 ≤ h := n
    have e := k6 rfl
    rw [pj_fst_kv (by omega)] at e ⊢
    exact d2 _ (by omega) e
  · subst z
    have n : 2 ≤ h := n
    have e := k7 rfl
    rw [pj_fst_kv (by omega), pj_snd_kv n] at e ⊢
    exact ⟨d1 _ (by omega) e.1, d2 _ (by omega) e.2⟩
  · subst z
    have n : 2 ≤ h := n
    have e := k12 rfl
    rw [pj_fst_kv (by omega), pj_snd_kv n] at e ⊢
    exact ⟨d2 _ (by omega) e.1, d2 _ (by omega) e.2⟩
  · subst z
    have n : 1 ≤ h := n
    have e := k13 rfl
    rw [pj_fst_kv (by omega)] at e ⊢
    exact d1 _ (by omega) e
/-- a patched position keeps a closed table closed -/
theorem pj_patch_closed {mh : Nat} {a1 a2 C : Nat → Int32} {p : Nat} (hp : p < 15) (c : pj_closed mh a1 a2 C) : pj_closed mh (upd a1 p (nI 10)) (upd a2 p (nI p)) C := by
  refine ⟨c.1, fun p' h hp' hh hz => ?_⟩
  by_cases e : p' = p
  · subst e
    intro r q s
    unfold pj_suc at s
    unfold pj_T
    rw [pj_op_us (by omega)] at s ⊢
    rw [pk_us] at s
    have e : q = p' := by
      rcases s.2 with z | z | z
      · exact ((nI_eq (by omega) (by omega)).mp z.2).symm
      · exact absurd rfl z.1
      · exact absurd z.1 (by omega)
    rw [e]
    exact pj_le_refl _
  · have d := c.2 p' h hp' hh hz
    unfold pj_done pj_suc pj_T at d ⊢
    rw [pj_op_un e, pk_un e]
    exact d
theorem pj_patch_ok {mh : Nat} {a1 a2 : Nat → Int32} {p p' h : Nat} {m : Int32} {x y : Int32} (e : p' ≠ p) (o : pj_ok mh a1 a2 p' h m) : pj_ok mh (upd a1 p x) (upd a2 p y) p' h m := by
  unfold pj_ok pj_lv at o ⊢
  rw [pj_op_un e, pk_un e]
  exact o
theorem pj_patch_self {mh : Nat} {a1 a2 : Nat → Int32} {p h : Nat} {m : Int32} (hp : p < 15) : pj_ok mh (upd a1 p (nI 10)) (upd a2 p (nI p)) p h m := by
  unfold pj_ok pj_lv pj_kok
  rw [pj_op_us (by omega), pk_us]
  refine ⟨?_, ⟨fun z => absurd z (by decide), fun z => absurd z (by decide), fun z => absurd z (by decide), fun z => absurd z (by decide), fun z => absurd z (by decide)⟩, ?_⟩
  · unfold pj_rf
    rw [if_neg (show ¬ h < pj_needs 10 from Nat.not_lt_zero h), if_neg (fun z => absurd z.1 (by decide))]
  · intro z
    rcases z with z | z | z
    · exact z.2 ⟨p, hp, rfl⟩
    · exact absurd rfl z.1
    · exact absurd z.1 (by decide)
end
section
/-! walks of the judge: single calls -/
def pj_qv (a5 : Nat → Int32) : Prop := ∀ i, i < 128 → ∃ x, x < 80 ∧ a5 i = nI x
theorem pj_qv_0 : pj_qv (fun _ => 0) := fun _ _ => ⟨0, by omega, rfl⟩
theorem pj_qv_upd {a5 : Nat → Int32} (h : pj_qv a5) (k : Nat) {x : Nat} (hx : x < 80) : pj_qv (upd a5 k (nI x)) := by
  intro i hi
  by_cases e : i = k
  · rw [e, pk_us]; exact ⟨x, hx, rfl⟩
  · rw [pk_un e]; exact h i hi
theorem pj_byte : ∀ n, n < 128 → (nI n).toInt8.toInt32 = nI n := by decide +kernel
theorem pj_node (p h : Nat) : nI p * 5 + nI h = nI (p * 5 + h) := by
  rw [show (5 : Int32) = nI 5 from rfl, pk_mul, nI_add]
theorem pj_div5 {n : Nat} (h : n < 2 ^ 31) : nI n / 5 = nI (n / 5) := pk_div (d := 5) h (by omega) (by omega)
theorem pj_rem5 {n : Nat} (h : n < 2 ^ 31) : nI n - nI n / 5 * 5 = nI (n % 5) := pk_rem (d := 5) h (by omega) (by omega)
theorem pj_5 : ¬ (5 : Int32) = 0 := by decide
theorem pj_in_nI {p : Nat} (hp : p < 2 ^ 31) (h : pj_in (nI p)) : p < 15 := by
  obtain ⟨q, hq, e⟩ := h
  have := (nI_eq hp (by omega)).mp e
  omega
theorem pj_w_inside {post : Int32 → Prop} {mh pl qh qc jd st ap tp md ch fk : Int32} {a1 a2 a3 a4 a5 a6 a7 a8 a9 a10 : Nat → Int32} {x : Int32} (H1 : ∀ q, q < 15 → x = nI q → post 1) (H0 : ¬ pj_in x → post 0) : wpX_inside post (mh, pl, (nI 15), qh, qc, jd, st, ap, tp, md, ch, fk, a1, a2, a3, a4, a5, a6, a7, a8, a9, a10) x := by
  unfold wpX_inside
  dsimp only
  rcases pk_ix x (n := 15) (by omega) with h | h | ⟨q, hq, e⟩
  · exact br_t h (H0 (fun z => by
      obtain ⟨q, hq, e⟩ := z
      rw [e] at h
      exact nI_pos (by omega) h))
  · have no : ¬ pj_in x := fun z => by
      obtain ⟨q, hq, e⟩ := z
      rw [e] at h
      exact nI_ge hq (by omega) h
    exact br_c (fun _ => H0 no) (fun _ => br_t h (H0 no))
  · subst e
    exact br_f (nI_pos (by omega)) (br_f (nI_ge hq (by omega)) (H1 q hq rfl))
def pj_nx (a1 a2 : Nat → Int32) (p : Nat) : Int32 := if pj_op a1 p = 13 then -1 else if pj_op a1 p = 10 then a2 p else nI (p + 1)
theorem pj_w_next {post : Int32 → Prop} {mh pl sz qh qc jd st ap tp md ch fk : Int32} {a1 a2 a3 a4 a5 a6 a7 a8 a9 a10 : Nat → Int32} {p : Nat} (g : pj_prog a1 a2) (hp : p < 16) (H : post (pj_nx a1 a2 p)) : wpX_mainNext post (mh, pl, sz, qh, qc, jd, st, ap, tp, md, ch, fk, a1, a2, a3, a4, a5, a6, a7, a8, a9, a10) (nI p) := by
  unfold wpX_mainNext
  dsimp only
  rw [nI_clamp (show p < 2 ^ 31 by omega)]
  have hk := (g p hp).2.1
  refine ⟨pk_in p 16 hp, nm_r (g p hp).1 ?_⟩
  unfold pj_nx at H
  refine pk_eq (pj_op a1 p) 13 (fun z => ?_) (fun z => pk_eq (pj_op a1 p) 10 (fun y => ⟨pk_in p 16 hp, ?_⟩) (fun y => ?_))
  · rw [if_pos z] at H; exact H
  · rw [if_neg z, if_pos y] at H; exact H
  · rw [if_neg z, if_neg y] at H
    rw [nI_1]
    exact H
theorem pj_nx_suc {a1 a2 : Nat → Int32} {p q : Nat} (hp : p < 16) (hq : q < 15) (e : pj_nx a1 a2 p = nI q) : (pj_op a1 p = 10 ∧ a2 p = nI q) ∨ (pj_op a1 p ≠ 10 ∧ pj_op a1 p ≠ 13 ∧ q = p + 1) := by
  unfold pj_nx at e
  by_cases h : pj_op a1 p = 13
  · rw [if_pos h] at e
    exact absurd e (by
      intro z
      have := congrArg Int32.toInt z
      rw [nI_toInt (by omega)] at this
      have e1 : ((-1 : Int32)).toInt = -1 := by decide
      omega)
  · rw [if_neg h] at e
    by_cases h' : pj_op a1 p = 10
    · rw [if_pos h'] at e; exact Or.inl ⟨h', e⟩
    · rw [if_neg h'] at e
      have := (nI_eq (by omega) (by omega)).mp e
      exact Or.inr ⟨h', h, this.symm⟩
theorem pj_nx_in {a1 a2 : Nat → Int32} {p q : Nat} (h : (pj_op a1 p = 10 ∧ a2 p = nI q) ∨ (pj_op a1 p ≠ 10 ∧ pj_op a1 p ≠ 13 ∧ q = p + 1)) : pj_nx a1 a2 p = nI q := by
  unfold pj_nx
  rcases h with ⟨h, e⟩ | ⟨h, h', e⟩
  · rw [if_neg (by omega), if_pos h, e]
  · rw [if_neg h', if_neg h, e]
theorem pj_w_reach {post : St2 → Prop} {mh pl sz jd st ap tp md ch fk : Int32} {a1 a2 a3 a4 a5 a6 a7 a8 a9 a10 : Nat → Int32} {p h H : Nat} {m : Int32} {Q : List Nat} (hp : p < 15) (hh : h ≤ 4) (hH : H < 128) (hQ : pj_Q H a4 a5 Q) (hv : pj_qv a5)
    (K : ∀ a3' a4' a5' Q', pj_Q H a4' a5' Q' → pj_qv a5' → pj_R a3 Q (p * 5 + h) m a3' Q' → post (mh, pl, sz, (nI H), (nI Q'.length), jd, st, ap, tp, md, ch, fk, a1, a2, a3', a4', a5', a6, a7, a8, a9, a10)) :
    wpX_reach post (mh, pl, sz, (nI H), (nI Q.length), jd, st, ap, tp, md, ch, fk, a1, a2, a3, a4, a5, a6, a7, a8, a9, a10) (nI p) (nI h) m := by
  unfold wpX_reach
  dsimp only
  have len := pj_Q_len hQ
  have hn : p * 5 + h < 80 := by omega
  have inn : vp_in (nI (p * 5 + h)) 80 := pk_in _ 80 hn
  refine nm_r (pj_node p h) ⟨inn, ?_⟩
  rw [nI_clamp (show p * 5 + h < 2 ^ 31 by omega)]
  refine nm_e ⟨inn, br_c (fun z => ?_) (fun z => ⟨inn, nm_e ⟨inn, ?_⟩⟩)⟩
  · exact K a3 a4 a5 Q hQ hv ⟨fun _ _ => rfl, z.symm, Or.inl ⟨rfl, Or.inl rfl⟩⟩
  · by_cases hq : p * 5 + h ∈ Q
    · refine br_f (by rw [(hQ.2.2.1 _ hn).1 hq]; decide) ?_
      exact K _ a4 a5 Q hQ hv ⟨fun j e => pk_un e, pk_us, Or.inl ⟨rfl, Or.inr hq⟩⟩
    · have idx : (nI H + nI Q.length) &&& 127 = nI ((H + Q.length) % 128) := by
        rw [nI_add, pk_andN (by omega) (m := 127) 7 (by decide)]
      rw [idx, nI_clamp (show (H + Q.length) % 128 < 2 ^ 31 by omega), pj_byte (p * 5 + h) (by omega), nI_1]
      refine br_t ((hQ.2.2.1 _ hn).2 hq) ⟨inn, nm_e ⟨pk_in ((H + Q.length) % 128) 128 (by omega), nm_e (nm_e ?_)⟩⟩
      have := K (upd a3 (p * 5 + h) (a3 (p * 5 + h) ||| m)) _ _ (Q ++ [p * 5 + h]) (pj_Q_push hQ (by omega) hq) (pj_qv_upd hv _ hn) ⟨fun j e => pk_un e, pk_us, Or.inr ⟨rfl, hq, z⟩⟩
      rw [List.length_append] at this
      exact this

/-! reset -/
theorem pj_w_reset37 {post : St2 → Prop} {mh pl sz qh qc jd st ap tp md ch fk : Int32} {a1 a2 a3 a4 a5 a7 a8 a9 a10 : Nat → Int32} (K : ∀ a6' : Nat → Int32, (∀ j, j < 16 → a6' j = 0) → post (mh, pl, sz, 0, 0, jd, st, ap, tp, md, ch, fk, a1, a2, a3, a4, a5, a6', a7, a8, a9, a10)) : ∀ (n i : Nat) (a6 : Nat → Int32), i ≤ 16 → 16 - i < n → (∀ j, j < i → a6 j = 0) → wX_reset_37 post mh pl sz qh qc jd st ap tp md ch fk n (nI i) a1 a2 a3 a4 a5 a6 a7 a8 a9 a10 := by
  intro n
  induction n with
  | zero => intro i a6 hi hn; omega
  | succ n ih =>
    intro i a6 hi hn h
    refine pk_le 16 i (fun z => K a6 (fun j hj => h j (by omega))) (fun z => ⟨pk_in i 16 z, nm_e (nm_r (nI_1 i) (ih (i + 1) _ (by omega) (by omega) ?_))⟩)
    rw [nI_clamp (show i < 2 ^ 31 by omega)]
    intro j hj
    by_cases e : j = i
    · rw [e, pk_us]
    · rw [pk_un e]; exact h j (by omega)
theorem pj_w_reset2 {post : St2 → Prop} {mh pl sz qh qc jd st ap tp md ch fk : Int32} {a1 a2 a5 a8 a9 a10 : Nat → Int32} (K : ∀ a3' a4' a6' a7' : Nat → Int32, (∀ j, j < 80 → a3' j = 0) → (∀ j, j < 80 → a4' j = 0) → (∀ j, j < 16 → a6' j = 0) → post (mh, pl, sz, 0, 0, jd, st, ap, tp, md, ch, fk, a1, a2, a3', a4', a5, a6', a7', a8, a9, a10)) : ∀ (n i : Nat) (a3 a4 a6 a7 : Nat → Int32), i ≤ 80 → 80 - i < n → (∀ j, j < i → a3 j = 0) → (∀ j, j < i → a4 j = 0) → wX_reset_2 post mh pl sz qh qc jd st ap tp md ch fk n (nI i) a1 a2 a3 a4 a5 a6 a7 a8 a9 a10 := by
  intro n
  induction n with
  | zero => intro i a3 a4 a6 a7 hi hn; omega
  | succ n ih =>
    intro i a3 a4 a6 a7 hi hn h3 h4
    refine pk_le 80 i (fun z => ⟨17, pj_w_reset37 (fun a6' h6 => K a3 a4 a6' a7 (fun j hj => h3 j (by omega)) (fun j hj => h4 j (by omega)) h6) 17 0 a6 (by omega) (by omega) (fun j hj => absurd hj (by omega))⟩) (fun z => ⟨pk_in i 80 z, nm_e ⟨pk_in i 80 z, nm_e ⟨pk_in i 80 z, nm_e (nm_r (nI_1 i) (ih (i + 1) _ _ _ _ (by omega) (by omega) ?_ ?_))⟩⟩⟩)
    · rw [nI_clamp (show i < 2 ^ 31 by omega)]
      intro j hj
      by_cases e : j = i
      · rw [e, pk_us]
      · rw [pk_un e]; exact h3 j (by omega)
    · rw [nI_clamp (show i < 2 ^ 31 by omega)]
      intro j hj
      by_cases e : j = i
      · rw [e, pk_us]
      · rw [pk_un e]; exact h4 j (by omega)
theorem pj_w_reset {post : St2 → Prop} {mh pl sz qh qc jd st ap tp md ch fk : Int32} {a1 a2 a3 a4 a5 a6 a7 a8 a9 a10 : Nat → Int32} (K : ∀ a3' a4' a6' a7' : Nat → Int32, (∀ j, j < 80 → a3' j = 0) → (∀ j, j < 80 → a4' j = 0) → (∀ j, j < 16 → a6' j = 0) → post (mh, pl, sz, 0, 0, jd, st, ap, tp, md, ch, fk, a1, a2, a3', a4', a5, a6', a7', a8, a9, a10)) : wpX_reset post (mh, pl, sz, qh, qc, jd, st, ap, tp, md, ch, fk, a1, a2, a3, a4, a5, a6, a7, a8, a9, a10) :=
  ⟨81, pj_w_reset2 K 81 0 a3 a4 a6 a7 (by omega) (by omega) (fun j hj => absurd hj (by omega)) (fun j hj => absurd hj (by omega))⟩

/-! spread -/
theorem pj_w_spread74 {post : St2 → Prop} {pl jd st ap tp md ch fk : Int32} {a1 a2 a3 a4 a5 a6 a7 a8 a9 a10 : Nat → Int32} {mh p h H i : Nat} {m : Int32} {Q : List Nat} (g : pj_prog a1 a2) (hm : mh ≤ 4) (hp : p < 15) (hh : h ≤ 4) (hH : H < 128) (hQ : pj_Q H a4 a5 Q) (hv : pj_qv a5) (I : pj_I mh a1 a2 a3 Q (fun n => n ≠ p * 5 + h)) (hz : m ≠ 0) (hg : pj_good h m) (hC : ∀ C, pj_closed mh a1 a2 C → pj_le m (C (p * 5 + h))) (hk : p * 5 + h ∉ Q → a3 (p * 5 + h) = m) (r : pj_rf mh (pj_op a1 p) h = 0)
    (hN : ∀ q, q < 15 → (pj_op a1 p = 10 ∧ a2 p = nI q) ∨ (pj_op a1 p ≠ 10 ∧ pj_op a1 p ≠ 13 ∧ q = p + 1) → pj_le (pj_T a1 a2 p h m) (a3 (q * 5 + pj_nh (pj_op a1 p) h))) (hs : i + Q.length ≤ pj_sum a3 80)
    (K : ∀ a3' a4' a5' Q', pj_Q H a4' a5' Q' → pj_qv a5' → pj_I mh a1 a2 a3' Q' (fun _ => True) → (∀ j, pj_le (a3 j) (a3' j)) → i + Q'.length ≤ pj_sum a3' 80 → post ((nI mh), pl, (nI 15), (nI H), (nI Q'.length), jd, st, ap, tp, md, ch, fk, a1, a2, a3', a4', a5', a6, a7, a8, a9, a10)) :
    wX_spread_74 post (nI p) (nI (pj_op a1 p)) (pj_T a1 a2 p h m) (nI (pj_nh (pj_op a1 p) h)) (nI mh) pl (nI 15) (nI H) (nI Q.length) jd st ap tp md ch fk a1 a2 a3 a4 a5 a6 a7 a8 a9 a10 := by
  have hk14 := (g p (by omega)).2.1
  have nle := pj_nh_le hm r hh
  have e5 : (p * 5 + h) / 5 = p := by omega
  have e6 : (p * 5 + h) % 5 = h := by omega
  have stay : (∀ q, q < 15 → pj_op a1 p = 11 → a2 p = nI q → False) → post ((nI mh), pl, (nI 15), (nI H), (nI Q.length), jd, st, ap, tp, md, ch, fk, a1, a2, a3, a4, a5, a6, a7, a8, a9, a10) := by
    intro no
    refine K a3 a4 a5 Q hQ hv (pj_I_close (x := p * 5 + h) I hk ?_) (fun j => pj_le_refl _) hs
    rw [e5, e6]
    intro _ q s
    rcases s.2 with z | z | z
    · exact hN q s.1 (Or.inl z)
    · exact hN q s.1 (Or.inr z)
    · exact (no q s.1 z.1 z.2).elim
  unfold wX_spread_74
  rw [nI_clamp (show p < 2 ^ 31 by omega)]
  refine pk_eq (pj_op a1 p) 11 (fun e => ⟨pk_in p 16 (by omega), pj_w_inside (fun q hq ea => br_f (by decide) ⟨pk_in p 16 (by omega), ?_⟩) (fun no => br_t rfl (stay (fun q hq _ ea => no ⟨q, hq, ea⟩)))⟩) (fun e => stay (fun q _ z _ => e z))
  rw [ea]
  have s : pj_suc a1 a2 p q := ⟨hq, Or.inr (Or.inr ⟨e, ea⟩)⟩
  refine pj_w_reach hq nle hH hQ hv (fun a3' a4' a5' Q' hQ' hv' R => ?_)
  have I' := pj_R_I I R (by omega) (by rw [show (q * 5 + pj_nh (pj_op a1 p) h) % 5 = pj_nh (pj_op a1 p) h by omega]; exact pj_good_T g hm (by omega) hh r hg) (fun C c => pj_T_closed c hp hh hz (hC C c) r s)
  refine K a3' a4' a5' Q' hQ' hv' (pj_I_close (x := p * 5 + h) (m := m) I' (fun z => ?_) ?_) (fun j => pj_R_mono R j) (pj_R_sum R (pj_good_T g hm (by omega) hh r hg).1 (by omega) hs)
  · have y := pj_R_keep R z
    rw [y.2]
    exact hk y.1
  · rw [e5, e6]
    intro _ q' s'
    rcases s'.2 with z | z | z
    · exact pj_le_trans (hN q' s'.1 (Or.inl z)) (pj_R_mono R _)
    · exact pj_le_trans (hN q' s'.1 (Or.inr z)) (pj_R_mono R _)
    · have eq : q' = q := (nI_eq (by have := s'.1; omega) (by omega)).mp (z.2.symm.trans ea)
      rw [eq]
      exact pj_R_ge R
theorem pj_w_spread {post : St2 → Prop} {pl jd st ap tp md ch fk : Int32} {a1 a2 a3 a4 a5 a6 a7 a8 a9 a10 : Nat → Int32} {mh p h H i : Nat} {Q : List Nat} (g : pj_prog a1 a2) (hm : mh ≤ 4) (hp : p < 15) (hh : h ≤ 4) (hH : H < 128) (hQ : pj_Q H a4 a5 Q) (hv : pj_qv a5) (I : pj_I mh a1 a2 a3 Q (fun n => n ≠ p * 5 + h)) (hz : a3 (p * 5 + h) ≠ 0) (hs : i + Q.length ≤ pj_sum a3 80)
    (K : ∀ a3' a4' a5' Q', pj_Q H a4' a5' Q' → pj_qv a5' → pj_I mh a1 a2 a3' Q' (fun _ => True) → (∀ j, pj_le (a3 j) (a3' j)) → i + Q'.length ≤ pj_sum a3' 80 → post ((nI mh), pl, (nI 15), (nI H), (nI Q'.length), jd, st, ap, tp, md, ch, fk, a1, a2, a3', a4', a5', a6, a7, a8, a9, a10)) :
    wpX_spread post ((nI mh), pl, (nI 15), (nI H), (nI Q.length), jd, st, ap, tp, md, ch, fk, a1, a2, a3, a4, a5, a6, a7, a8, a9, a10) (nI p) (nI h) := by
  have hk14 := (g p (by omega)).2.1
  have e5 : (p * 5 + h) / 5 = p := by omega
  have e6 : (p * 5 + h) % 5 = h := by omega
  have hg : pj_good h (a3 (p * 5 + h)) := by
    have := (I.1 (p * 5 + h) (by omega) hz).2
    rwa [e6] at this
  have hC : ∀ C, pj_closed mh a1 a2 C → pj_le (a3 (p * 5 + h)) (C (p * 5 + h)) := fun C c => I.2.2.1 C c _ (by omega)
  unfold wpX_spread
  dsimp only
  rw [pj_node p h, nI_clamp (show p < 2 ^ 31 by omega), nI_clamp (show p * 5 + h < 2 ^ 31 by omega)]
  refine ⟨pk_in p 16 (by omega), nm_r (g p (by omega)).1 (pj_w_room hk14 hh hm ?_)⟩
  have rlt := pj_rf_lt mh (pj_op a1 p) h
  refine pk_eq (pj_rf mh (pj_op a1 p) h) 0 (fun r => ⟨pk_in p 16 (by omega), pk_in (p * 5 + h) 80 (by omega), pj_w_after hk14 (pj_w_growth hk14 ?_)⟩) (fun r => ?_)
  · have nle := pj_nh_le hm r hh
    refine nm_r (pj_nh_gr _ hk14 h (by omega) (pj_rf_needs r)) (pj_w_next g (by omega) (pj_w_inside (fun q hq ea => br_f (by decide) ?_) (fun no => br_t rfl ?_)))
    · rw [ea]
      have su := pj_nx_suc (by omega) hq ea
      have s : pj_suc a1 a2 p q := ⟨hq, by
        rcases su with z | z
        · exact Or.inl z
        · exact Or.inr (Or.inl z)⟩
      refine pj_w_reach hq nle hH hQ hv (fun a3' a4' a5' Q' hQ' hv' R => ?_)
      have I' := pj_R_I I R (by omega) (by rw [show (q * 5 + pj_nh (pj_op a1 p) h) % 5 = pj_nh (pj_op a1 p) h by omega]; exact pj_good_T g hm (by omega) hh r hg) (fun C c => pj_T_closed c hp hh hz (hC C c) r s)
      refine pj_w_spread74 (m := a3 (p * 5 + h)) g hm hp hh hH hQ' hv' I' hz hg hC (fun z => (pj_R_keep R z).2) r ?_ (pj_R_sum R (pj_good_T g hm (by omega) hh r hg).1 (by omega) hs) (fun a3'' a4'' a5'' Q'' hQ'' hv'' I'' mono sum => K a3'' a4'' a5'' Q'' hQ'' hv'' I'' (fun j => pj_le_trans (pj_R_mono R j) (mono j)) sum)
      intro q' hq' z
      have eq : q' = q := (nI_eq (by omega) (by omega)).mp ((pj_nx_in z).symm.trans ea)
      rw [eq]
      exact pj_R_ge R
    · refine pj_w_spread74 (m := a3 (p * 5 + h)) g hm hp hh hH hQ hv I hz hg hC (fun _ => rfl) r ?_ hs K
      intro q' hq' z
      exact absurd ⟨q', hq', pj_nx_in z⟩ no
  · refine K a3 a4 a5 Q hQ hv (pj_I_close (x := p * 5 + h) (m := a3 (p * 5 + h)) I (fun _ => rfl) ?_) (fun j => pj_le_refl _) hs
    rw [e5, e6]
    intro z
    exact absurd z r

/-! the rounds -/
theorem pj_w_rounds {post : St2 → Prop} {pl jd st ap tp md ch fk : Int32} {a1 a2 a6 a7 a8 a9 a10 : Nat → Int32} {mh : Nat} (g : pj_prog a1 a2) (hm : mh ≤ 4)
    (K : ∀ (qh qc : Int32) (a3 a4 a5 : Nat → Int32), pj_qv a5 → pj_I mh a1 a2 a3 [] (fun _ => True) → pj_le pj_fresh (a3 0) → wX_judge_122 post (nI mh) pl (nI 15) qh qc jd st ap tp md ch fk a1 a2 a3 a4 a5 a6 a7 a8 a9 a10) :
    ∀ (n i H : Nat) (Q : List Nat) (a3 a4 a5 : Nat → Int32), 1600 - i < n → H < 128 → pj_Q H a4 a5 Q → pj_qv a5 → pj_I mh a1 a2 a3 Q (fun _ => True) → pj_le pj_fresh (a3 0) → i + Q.length ≤ pj_sum a3 80 → wX_judge_48 post n (nI i) (nI mh) pl (nI 15) (nI H) (nI Q.length) jd st ap tp md ch fk a1 a2 a3 a4 a5 a6 a7 a8 a9 a10 := by
  intro n
  induction n with
  | zero => intro i H Q a3 a4 a5 hn; omega
  | succ n ih =>
    intro i H Q a3 a4 a5 hn hH hQ hv I hf hs
    have top := pj_sum_le a3 80
    have len := pj_Q_len hQ
    refine pk_le 1600 i (fun z => absurd z (by omega)) (fun z => pk_le Q.length 0 (fun y => ?_) (fun y => ?_))
    · have e : Q = [] := List.eq_nil_of_length_eq_zero (by omega)
      subst e
      exact K _ _ a3 a4 a5 hv I hf
    · match Q, hQ, I, hs, len, y with
      | [], _, _, _, _, y => exact absurd y (by simp)
      | x :: Q', hQ, I, hs, len, y =>
        obtain ⟨ex, hx, hq, hQ'⟩ := pj_Q_pop hH hQ
        obtain ⟨I', hz⟩ := pj_I_pop I
        rw [List.length_cons] at hs
        refine ⟨pk_in H 128 hH, nm_r (e' := nI x) (by rw [nI_clamp (by omega)]; exact ex) (nm_r (e' := nI ((H + 1) % 128)) (by rw [nI_1, pk_andN (by omega) (m := 127) 7 (by decide)]) (nm_r (e' := nI Q'.length) (by rw [List.length_cons]; exact nI_pred _) ⟨pk_in x 80 (by omega), ?_⟩))⟩
        rw [nI_clamp (show x < 2 ^ 31 by omega), pj_div5 (by omega)]
        have re := pj_rem5 (n := x) (by omega)
        rw [pj_div5 (by omega)] at re
        rw [re]
        refine nm_e ⟨pj_5, pj_5, ?_⟩
        have en : x / 5 * 5 + x % 5 = x := by omega
        refine pj_w_spread (i := i + 1) g hm (by omega) (by omega) (by omega) hQ' hv (by rw [en]; exact I') (by rw [en]; exact hz) (by omega) (fun a3' a4' a5' Q'' hQ'' hv' I'' mono sum => ?_)
        exact nm_r (nI_1 i) (ih (i + 1) _ Q'' a3' a4' a5' (by omega) (by omega) hQ'' hv' I'' (pj_le_trans hf (mono 0)) sum)
end
section
/-! faults of a node, note, measure, judge -/
theorem pj_kok_triv {k : Nat} {x y : Int32} (h5 : k ≠ 5) (h6 : k ≠ 6) (h7 : k ≠ 7) (h12 : k ≠ 12) (h13 : k ≠ 13) : pj_kok k x y :=
  ⟨fun z => absurd z h5, fun z => absurd z h6, fun z => absurd z h7, fun z => absurd z h12, fun z => absurd z h13⟩
theorem pj_w_156a {post : Int32 → Prop} (H : post 0) : wX_kindFault_156 post 0 := br_t rfl H
theorem pj_w_156b {post : Int32 → Prop} (H : post 4) : wX_kindFault_156 post 1 := br_f (by decide) H
theorem pj_w_kf32 {post : Int32 → Prop} {k : Nat} {x y : Int32} (hk : k < 14) (H0 : pj_kok k x y → post 0) (H4 : ¬ pj_kok k x y → post 4) : wX_kindFault_32 post (nI k) x y := by
  unfold wX_kindFault_32
  refine pk_eq k 5 (fun e => ?_) (fun n5 => pk_eq k 6 (fun e => ?_) (fun n6 => pk_eq k 7 (fun e => ?_) (fun n7 => pk_eq k 12 (fun e => ?_) (fun n12 => pk_eq k 13 (fun e => ?_) (fun n13 => ?_)))))
  · subst e
    refine br_c (fun hx => br_c (fun hy => ?_) (fun hy => ?_)) (fun hx => ?_)
    · exact pj_w_156a (H0 ⟨fun _ => ⟨hx, hy⟩, fun z => absurd z (by decide), fun z => absurd z (by decide), fun z => absurd z (by decide), fun z => absurd z (by decide)⟩)
    · exact pj_w_156b (H4 (fun z => hy (z.1 rfl).2))
    · exact pj_w_156b (H4 (fun z => hx (z.1 rfl).1))
  · subst e
    refine br_c (fun hx => ?_) (fun hx => ?_)
    · exact pj_w_156a (H0 ⟨fun z => absurd z (by decide), fun _ => hx, fun z => absurd z (by decide), fun z => absurd z (by decide), fun z => absurd z (by decide)⟩)
    · exact pj_w_156b (H4 (fun z => hx (z.2.1 rfl)))
  · subst e
    refine br_c (fun hx => br_c (fun hy => ?_) (fun hy => ?_)) (fun hx => ?_)
    · exact pj_w_156a (H0 ⟨fun z => absurd z (by decide), fun z => absurd z (by decide), fun _ => ⟨hx, hy⟩, fun z => absurd z (by decide), fun z => absurd z (by decide)⟩)
    · exact pj_w_156b (H4 (fun z => hy (z.2.2.1 rfl).2))
    · exact pj_w_156b (H4 (fun z => hx (z.2.2.1 rfl).1))
  · subst e
    refine br_c (fun hx => br_c (fun hy => ?_) (fun hy => ?_)) (fun hx => ?_)
    · exact pj_w_156a (H0 ⟨fun z => absurd z (by decide), fun z => absurd z (by decide), fun z => absurd z (by decide), fun _ => ⟨hx, hy⟩, fun z => absurd z (by decide)⟩)
    · exact pj_w_156b (H4 (fun z => hy (z.2.2.2.1 rfl).2))
    · exact pj_w_156b (H4 (fun z => hx (z.2.2.2.1 rfl).1))
  · subst e
    refine br_c (fun hx => ?_) (fun hx => ?_)
    · exact pj_w_156a (H0 ⟨fun z => absurd z (by decide), fun z => absurd z (by decide), fun z => absurd z (by decide), fun z => absurd z (by decide), fun _ => hx⟩)
    · exact pj_w_156b (H4 (fun z => hx (z.2.2.2.2 rfl)))
  · exact pj_w_156a (H0 (pj_kok_triv n5 n6 n7 n12 n13))
theorem pj_w_kf {post : Int32 → Prop} {u : St0} {k h : Nat} {m : Int32} (hk : k < 14) (hh : h ≤ 4) (H0 : pj_kok k (pj_fst h m) (pj_snd h m) → post 0) (H4 : ¬ pj_kok k (pj_fst h m) (pj_snd h m) → post 4) : wpX_kindFault post u (nI k) (nI h) m := by
  have two : ∀ z, pj_fst h m = z → wX_kindFault_15 post (nI k) (nI h) m z := by
    intro z ez
    rw [ez] at H0 H4
    unfold wX_kindFault_15
    refine pk_le h 1 (fun y => ?_) (fun y => pj_w_ka ?_)
    · have e : pj_snd h m = 0 := if_neg (by omega)
      rw [e] at H0 H4
      exact pj_w_kf32 hk H0 H4
    · have e : pj_snd h m = pj_ka m (nI h - 2) := if_pos y
      rw [e] at H0 H4
      exact pj_w_kf32 hk H0 H4
  unfold wpX_kindFault
  exact pk_le h 0 (fun y => two 0 (if_neg (by omega))) (fun y => pj_w_ka (two _ (if_pos y)))
theorem pj_w_f91 {post : Int32 → Prop} {mh pl sz qh qc jd st ap tp md ch fk : Int32} {a1 a2 a3 a4 a5 a6 a7 a8 a9 a10 : Nat → Int32} {x4 x6 : Int32} (H0 : x6 = 0 → post x4) (H8 : ¬ x6 = 0 → post (x4 ||| 8)) : wX_faultsOf_91 post x4 x6 mh pl sz qh qc jd st ap tp md ch fk a1 a2 a3 a4 a5 a6 a7 a8 a9 a10 := ⟨H0, H8⟩
theorem pj_w_f67 {post : Int32 → Prop} {mh pl qh qc jd st ap tp md ch fk : Int32} {a1 a2 a3 a4 a5 a6 a7 a8 a9 a10 : Nat → Int32} {p : Nat} {x4 z0 : Int32} {L : Prop} (g : pj_prog a1 a2) (hp : p < 16) (hL : (z0 = 1 ∧ L) ∨ (z0 = 0 ∧ ¬ L)) (H0 : ¬ (L ∨ (pj_op a1 p = 11 ∧ ¬ pj_in (a2 p))) → post x4) (H8 : L ∨ (pj_op a1 p = 11 ∧ ¬ pj_in (a2 p)) → post (x4 ||| 8)) : wX_faultsOf_67 post (nI p) (nI (pj_op a1 p)) x4 z0 mh pl (nI 15) qh qc jd st ap tp md ch fk a1 a2 a3 a4 a5 a6 a7 a8 a9 a10 := by
  have hk := (g p hp).2.1
  unfold wX_faultsOf_67
  rw [nI_clamp (show p < 2 ^ 31 by omega)]
  have rest : ¬ (pj_op a1 p = 11 ∧ ¬ pj_in (a2 p)) → wX_faultsOf_91 post x4 z0 mh pl (nI 15) qh qc jd st ap tp md ch fk a1 a2 a3 a4 a5 a6 a7 a8 a9 a10 := by
    intro no
    rcases hL with ⟨e, l⟩ | ⟨e, l⟩
    · rw [e]; exact pj_w_f91 (fun z => absurd z (by decide)) (fun _ => H8 (Or.inl l))
    · rw [e]; exact pj_w_f91 (fun _ => H0 (fun z => z.elim l no)) (fun z => absurd rfl z)
  refine pk_eq (pj_op a1 p) 11 (fun e => ⟨pk_in p 16 hp, pj_w_inside (fun q hq ea => br_f (by decide) (rest (fun z => z.2 ⟨q, hq, ea⟩))) (fun no => br_t rfl ?_)⟩) (fun e => rest (fun z => e z.1))
  exact pj_w_f91 (fun z => absurd z (by decide)) (fun _ => H8 (Or.inr ⟨e, no⟩))
theorem pj_w_faultsOf {post : Int32 → Prop} {pl qh qc jd st ap tp md ch fk : Int32} {a1 a2 a3 a4 a5 a6 a7 a8 a9 a10 : Nat → Int32} {mh p h : Nat} (g : pj_prog a1 a2) (hm : mh ≤ 4) (hp : p < 16) (hh : h ≤ 4) (H : ∀ f, f < 16 → (f = 0 ↔ pj_ok mh a1 a2 p h (a3 (p * 5 + h))) → post (nI f)) : wpX_faultsOf post ((nI mh), pl, (nI 15), qh, qc, jd, st, ap, tp, md, ch, fk, a1, a2, a3, a4, a5, a6, a7, a8, a9, a10) (nI p) (nI h) := by
  have hk := (g p hp).2.1
  unfold wpX_faultsOf
  dsimp only
  rw [pj_node p h, nI_clamp (show p < 2 ^ 31 by omega), nI_clamp (show p * 5 + h < 2 ^ 31 by omega)]
  refine ⟨pk_in p 16 hp, nm_r (g p hp).1 (pj_w_room hk hh hm ?_)⟩
  have rlt := pj_rf_lt mh (pj_op a1 p) h
  refine pk_eq (pj_rf mh (pj_op a1 p) h) 0 (fun r => ⟨pk_in (p * 5 + h) 80 (by omega), ?_⟩) (fun r => H _ (by omega) ⟨fun z => absurd z r, fun z => absurd z.1 r⟩)
  have tail : ∀ c : Nat, (c = 0 ∧ pj_kok (pj_op a1 p) (pj_fst h (a3 (p * 5 + h))) (pj_snd h (a3 (p * 5 + h)))) ∨ (c = 4 ∧ ¬ pj_kok (pj_op a1 p) (pj_fst h (a3 (p * 5 + h))) (pj_snd h (a3 (p * 5 + h)))) → (¬ pj_lv a1 a2 p → post (nI c)) ∧ (pj_lv a1 a2 p → post (nI c ||| 8)) := by
    intro c hc
    rcases hc with ⟨e, k⟩ | ⟨e, k⟩
    · subst e
      exact ⟨fun l => H 0 (by omega) ⟨fun _ => ⟨r, k, l⟩, fun _ => rfl⟩, fun l => H 8 (by omega) ⟨fun z => absurd z (by decide), fun z => absurd l z.2.2⟩⟩
    · subst e
      refine ⟨fun l => H 4 (by omega) ⟨fun z => absurd z (by decide), fun z => absurd z.2.1 k⟩, fun l => ?_⟩
      have := H 12 (by omega) ⟨fun z => absurd z (by decide), fun z => absurd l z.2.2⟩
      exact this
  have main : ∀ c : Nat, (¬ pj_lv a1 a2 p → post (nI c)) ∧ (pj_lv a1 a2 p → post (nI c ||| 8)) → wpX_mainNext (fun r_7 => (((nI (pj_op a1 p) = 13 → (wX_faultsOf_66 post (nI p) (nI (pj_op a1 p)) (nI c) (nI mh) pl (nI 15) qh qc jd st ap tp md ch fk a1 a2 a3 a4 a5 a6 a7 a8 a9 a10)) ∧ (¬ nI (pj_op a1 p) = 13 → (wpX_inside (fun r_14 => (((r_14 = 0 → (wX_faultsOf_67 post (nI p) (nI (pj_op a1 p)) (nI c) 1 (nI mh) pl (nI 15) qh qc jd st ap tp md ch fk a1 a2 a3 a4 a5 a6 a7 a8 a9 a10)) ∧ (¬ r_14 = 0 → (wX_faultsOf_66 post (nI p) (nI (pj_op a1 p)) (nI c) (nI mh) pl (nI 15) qh qc jd st ap tp md ch fk a1 a2 a3 a4 a5 a6 a7 a8 a9 a10))))) ((nI mh), pl, (nI 15), qh, qc, jd, st, ap, tp, md, ch, fk, a1, a2, a3, a4, a5, a6, a7, a8, a9, a10) r_7))))) ((nI mh), pl, (nI 15), qh, qc, jd, st, ap, tp, md, ch, fk, a1, a2, a3, a4, a5, a6, a7, a8, a9, a10) (nI p) := by
    intro c hc
    have lv : pj_lv a1 a2 p ↔ ((pj_op a1 p ≠ 13 ∧ ¬ pj_in (pj_nx a1 a2 p)) ∨ (pj_op a1 p = 11 ∧ ¬ pj_in (a2 p))) := by
      unfold pj_lv pj_nx
      by_cases h13 : pj_op a1 p = 13
      · rw [h13]
        constructor
        · intro z
          rcases z with z | z | z
          · exact absurd z.1 (by decide)
          · exact absurd rfl z.2.1
          · exact Or.inr z
        · intro z
          rcases z with z | z
          · exact absurd rfl z.1
          · exact Or.inr (Or.inr z)
      · rw [if_neg h13]
        by_cases h10 : pj_op a1 p = 10
        · rw [if_pos h10]
          constructor
          · intro z
            rcases z with z | z | z
            · exact Or.inl ⟨h13, z.2⟩
            · exact absurd h10 z.1
            · exact Or.inr z
          · intro z
            rcases z with z | z
            · exact Or.inl ⟨h10, z.2⟩
            · exact Or.inr (Or.inr z)
        · rw [if_neg h10]
          constructor
          · intro z
            rcases z with z | z | z
            · exact absurd z.1 h10
            · exact Or.inl ⟨h13, fun y => z.2.2 (pj_in_nI (by omega) y)⟩
            · exact Or.inr z
          · intro z
            rcases z with z | z
            · exact Or.inr (Or.inl ⟨h10, h13, fun y => z.2 ⟨p + 1, y, rfl⟩⟩)
            · exact Or.inr (Or.inr z)
    rw [lv] at hc
    refine pj_w_next g hp (pk_eq (pj_op a1 p) 13 (fun e => ?_) (fun e => pj_w_inside (fun q hq ea => br_f (by decide) ?_) (fun no => br_t rfl ?_)))
    · exact pj_w_f67 g hp (Or.inr ⟨rfl, fun z => z.1 e⟩) hc.1 hc.2
    · exact pj_w_f67 g hp (Or.inr ⟨rfl, fun z => z.2 ⟨q, hq, ea⟩⟩) hc.1 hc.2
    · exact pj_w_f67 g hp (Or.inl ⟨rfl, ⟨e, no⟩⟩) hc.1 hc.2
  exact pj_w_kf hk hh (fun k => main 0 (tail 0 (Or.inl ⟨rfl, k⟩))) (fun k => main 4 (tail 4 (Or.inr ⟨rfl, k⟩)))

/-! note -/
theorem pj_or16 : ∀ a, a < 16 → ∀ b, b < 16 → (nI a ||| nI b).toInt8.toInt32 = nI (a ||| b) ∧ (a ||| b) < 16 ∧ ((a ||| b) = 0 ↔ a = 0 ∧ b = 0) := by decide +kernel
def pj_nI (mh : Nat) (a1 a2 M : Nat → Int32) (i : Nat) (a6 : Nat → Int32) : Prop := ∀ p, p < 16 → ∃ f, f < 16 ∧ a6 p = nI f ∧ (f = 0 ↔ ∀ h, h ≤ 4 → p * 5 + h < i → M (p * 5 + h) ≠ 0 → pj_ok mh a1 a2 p h (M (p * 5 + h)))
theorem pj_nI_skip {mh : Nat} {a1 a2 M a6 : Nat → Int32} {i : Nat} (h : pj_nI mh a1 a2 M i a6) (z : M i = 0) : pj_nI mh a1 a2 M (i + 1) a6 := by
  intro p hp
  obtain ⟨f, hf, e, q⟩ := h p hp
  refine ⟨f, hf, e, q.trans ⟨fun t h' hh hi hz => ?_, fun t h' hh hi hz => t h' hh (by omega) hz⟩⟩
  by_cases c : p * 5 + h' = i
  · rw [c] at hz; exact absurd z hz
  · exact t h' hh (by omega) hz
theorem pj_nI_add {mh : Nat} {a1 a2 M a6 : Nat → Int32} {i f9 : Nat} (h : pj_nI mh a1 a2 M i a6) (hi : i < 80) (z : M i ≠ 0) (h9 : f9 < 16) (o : f9 = 0 ↔ pj_ok mh a1 a2 (i / 5) (i % 5) (M i)) : pj_nI mh a1 a2 M (i + 1) (upd a6 (i / 5) ((a6 (i / 5) ||| nI f9).toInt8.toInt32)) := by
  intro p hp
  obtain ⟨f, hf, e, q⟩ := h p hp
  by_cases c : p = i / 5
  · subst c
    rw [pk_us, e]
    obtain ⟨b1, b2, b3⟩ := pj_or16 f hf f9 h9
    refine ⟨f ||| f9, b2, b1, b3.trans ⟨fun t h' hh hl hz => ?_, fun t => ⟨q.mpr (fun h' hh hl hz => t h' hh (by omega) hz), o.mpr ?_⟩⟩⟩
    · by_cases c : i / 5 * 5 + h' = i
      · have := o.mp t.2
        rw [show i % 5 = h' by omega] at this
        rw [c]
        exact this
      · exact q.mp t.1 h' hh (by omega) hz
    · have en : i / 5 * 5 + i % 5 = i := by omega
      have := t (i % 5) (by omega) (by omega) (by rw [en]; exact z)
      rwa [en] at this
  · rw [pk_un c]
    refine ⟨f, hf, e, q.trans ⟨fun t h' hh hl hz => t h' hh (by omega) hz, fun t h' hh hl hz => t h' hh (by omega) hz⟩⟩
theorem pj_w_note2 {post : St2 → Prop} {pl qh qc jd st ap tp md ch fk : Int32} {a1 a2 a3 a4 a5 a7 a8 a9 a10 : Nat → Int32} {mh : Nat} (g : pj_prog a1 a2) (hm : mh ≤ 4) (K : ∀ a6 : Nat → Int32, pj_noted mh a1 a2 a3 a6 → post ((nI mh), pl, (nI 15), qh, qc, jd, st, ap, tp, md, ch, fk, a1, a2, a3, a4, a5, a6, a7, a8, a9, a10)) : ∀ (n i : Nat) (a6 : Nat → Int32), i ≤ 80 → 80 - i < n → pj_nI mh a1 a2 a3 i a6 → wX_note_2 post (nI mh) pl (nI 15) qh qc jd st ap tp md ch fk n (nI i) a1 a2 a3 a4 a5 a6 a7 a8 a9 a10 := by
  intro n
  induction n with
  | zero => intro i a6 hi hn; omega
  | succ n ih =>
    intro i a6 hi hn h
    refine pk_le 80 i (fun z => K a6 ?_) (fun z => ⟨pk_in i 80 z, ?_⟩)
    · intro p hp
      obtain ⟨f, hf, e, q⟩ := h p hp
      exact ⟨f, hf, e, q.trans ⟨fun t h' hh hz => t h' hh (by omega) hz, fun t h' hh _ hz => t h' hh hz⟩⟩
    · rw [nI_clamp (show i < 2 ^ 31 by omega)]
      refine br_c (fun y => nm_r (nI_1 i) (ih (i + 1) a6 (by omega) (by omega) (pj_nI_skip h y))) (fun y => ⟨pj_5, nm_r (pj_div5 (by omega)) ⟨pk_in (i / 5) 16 (by omega), pj_5, ?_⟩⟩)
      rw [pj_rem5 (n := i) (by omega)]
      have en : i / 5 * 5 + i % 5 = i := by omega
      refine pj_w_faultsOf g hm (by omega) (by omega) (fun f hf o => ⟨pk_in (i / 5) 16 (by omega), ?_⟩)
      rw [en] at o
      rw [nI_clamp (show i / 5 < 2 ^ 31 by omega)]
      exact nm_e (nm_r (nI_1 i) (ih (i + 1) _ (by omega) (by omega) (pj_nI_add h z y hf o)))
theorem pj_w_note {post : St2 → Prop} {pl qh qc jd st ap tp md ch fk : Int32} {a1 a2 a3 a4 a5 a6 a7 a8 a9 a10 : Nat → Int32} {mh : Nat} (g : pj_prog a1 a2) (hm : mh ≤ 4) (h6 : ∀ j, j < 16 → a6 j = 0) (K : ∀ a6 : Nat → Int32, pj_noted mh a1 a2 a3 a6 → post ((nI mh), pl, (nI 15), qh, qc, jd, st, ap, tp, md, ch, fk, a1, a2, a3, a4, a5, a6, a7, a8, a9, a10)) : wpX_note post ((nI mh), pl, (nI 15), qh, qc, jd, st, ap, tp, md, ch, fk, a1, a2, a3, a4, a5, a6, a7, a8, a9, a10) :=
  ⟨81, pj_w_note2 g hm K 81 0 a6 (by omega) (by omega) (fun p hp => ⟨0, by omega, h6 p hp, fun _ h' _ hl => absurd hl (by omega), fun _ => rfl⟩)⟩

/-! measure: only the queue and the distances change -/
theorem pj_w_visit {post : St2 → Prop} {mh pl qh qc jd st ap tp md ch fk : Int32} {a1 a2 a3 a4 a5 a6 a7 a8 a9 a10 : Nat → Int32} {x s : Int32} {h : Nat} (hh : h ≤ 4) (hv : pj_qv a5) (K : ∀ (qc : Int32) (a5 a7 : Nat → Int32), pj_qv a5 → post (mh, pl, (nI 15), qh, qc, jd, st, ap, tp, md, ch, fk, a1, a2, a3, a4, a5, a6, a7, a8, a9, a10)) : wpX_visit post (mh, pl, (nI 15), qh, qc, jd, st, ap, tp, md, ch, fk, a1, a2, a3, a4, a5, a6, a7, a8, a9, a10) x (nI h) s := by
  unfold wpX_visit
  dsimp only
  refine pj_w_inside (fun q hq e => br_f (by decide) ?_) (fun no => br_t rfl (K qc a5 a7 hv))
  subst e
  have inn : vp_in (nI (q * 5 + h)) 80 := pk_in (q * 5 + h) 80 (by omega)
  refine nm_r (pj_node q h) ⟨inn, br_c (fun z => K qc a5 a7 hv) (fun z => ⟨inn, nm_e ⟨pk_andIn _ (m := 127) 7 (by decide) (by omega), ?_⟩⟩)⟩
  rw [pj_byte (q * 5 + h) (by omega)]
  exact nm_e (nm_e (K _ _ _ (pj_qv_upd hv _ (by omega))))
theorem pj_w_measure19 {post : St2 → Prop} {pl jd st ap tp md ch fk : Int32} {a1 a2 a3 a4 a6 a8 a9 a10 : Nat → Int32} {mh : Nat} (g : pj_prog a1 a2) (hm : mh ≤ 4) (K : ∀ (qh qc : Int32) (a5 a7 : Nat → Int32), pj_qv a5 → post ((nI mh), pl, (nI 15), qh, qc, jd, st, ap, tp, md, ch, fk, a1, a2, a3, a4, a5, a6, a7, a8, a9, a10)) : ∀ (n i : Nat) (qc : Int32) (a5 a7 : Nat → Int32), i ≤ 80 → 80 - i < n → pj_qv a5 → wX_measure_19 post n (nI i) (nI mh) pl (nI 15) (nI i) qc jd st ap tp md ch fk a1 a2 a3 a4 a5 a6 a7 a8 a9 a10 := by
  intro n
  induction n with
  | zero => intro i qc a5 a7 hi hn; omega
  | succ n ih =>
    intro i qc a5 a7 hi hn hv
    refine pk_le 80 i (fun z => K _ _ a5 a7 hv) (fun z => br_c (fun y => K _ _ a5 a7 hv) (fun y => ⟨pk_in i 128 (by omega), ?_⟩))
    obtain ⟨x, hx, ex⟩ := hv i (by omega)
    rw [nI_clamp (show i < 2 ^ 31 by omega)]
    have hk := (g (x / 5) (by omega)).2.1
    refine nm_r ex (nm_r (nI_1 i) (nm_e ⟨pj_5, nm_r (pj_div5 (by omega)) ⟨pk_in (x / 5) 16 (by omega), ?_⟩⟩))
    rw [nI_clamp (show x / 5 < 2 ^ 31 by omega)]
    refine nm_r (g (x / 5) (by omega)).1 ⟨pj_5, nm_r (pj_rem5 (n := x) (by omega)) (pj_w_room hk (by omega) hm ?_)⟩
    have rlt := pj_rf_lt mh (pj_op a1 (x / 5)) (x % 5)
    refine pk_eq (pj_rf mh (pj_op a1 (x / 5)) (x % 5)) 0 (fun r => pj_w_growth hk ?_) (fun r => nm_r (nI_1 i) (ih (i + 1) _ a5 a7 (by omega) (by omega) hv))
    have nle := pj_nh_le hm r (show x % 5 ≤ 4 by omega)
    refine nm_r (pj_nh_gr _ hk _ (by omega) (pj_rf_needs r)) ⟨pk_in x 80 hx, nm_e (pj_w_next g (by omega) (pj_w_visit nle hv (fun qc' a5' a7' hv' => ?_)))⟩
    have fin : ∀ z0 : Int32, wX_measure_144 post (wX_measure_19 post n) (nI i) (nI (pj_nh (pj_op a1 (x / 5)) (x % 5))) (a7 (nI x).toNatClampNeg + 1) z0 (nI mh) pl (nI 15) (nI (i + 1)) qc' jd st ap tp md ch fk a1 a2 a3 a4 a5' a6 a7' a8 a9 a10 := fun z0 =>
      pj_w_visit nle hv' (fun qc'' a5'' a7'' hv'' => nm_r (nI_1 i) (ih (i + 1) qc'' a5'' a7'' (by omega) (by omega) hv''))
    exact br_c (fun _ => ⟨pk_in (x / 5) 16 (by omega), fin _⟩) (fun _ => fin _)
theorem pj_w_measure {post : St2 → Prop} {pl qh qc jd st ap tp md ch fk : Int32} {a1 a2 a3 a4 a5 a6 a7 a8 a9 a10 : Nat → Int32} {mh : Nat} (g : pj_prog a1 a2) (hm : mh ≤ 4) (hv : pj_qv a5) (K : ∀ (qh qc : Int32) (a5 a7 : Nat → Int32), pj_qv a5 → post ((nI mh), pl, (nI 15), qh, qc, jd, st, ap, tp, md, ch, fk, a1, a2, a3, a4, a5, a6, a7, a8, a9, a10)) : wpX_measure post ((nI mh), pl, (nI 15), qh, qc, jd, st, ap, tp, md, ch, fk, a1, a2, a3, a4, a5, a6, a7, a8, a9, a10) := by
  unfold wpX_measure
  dsimp only
  exact pj_w_visit (h := 0) (by omega) hv (fun qc' a5' a7' hv' => ⟨81, pj_w_measure19 g hm K 81 0 qc' a5' a7' (by omega) (by omega) hv'⟩)

/-! judge -/
theorem pj_w_judge {post : St2 → Prop} {pl qh qc jd st ap tp md ch fk : Int32} {a1 a2 a3 a4 a5 a6 a7 a8 a9 a10 : Nat → Int32} {mh : Nat} (g : pj_prog a1 a2) (hm : mh ≤ 4) (hv : pj_qv a5) (hj : jd = 0 ∨ (¬ jd = 0 ∧ pj_J mh a1 a2 a3 a6)) (K : ∀ (qh qc jd : Int32) (a3 a4 a5 a6 a7 : Nat → Int32), pj_qv a5 → ¬ jd = 0 → pj_J mh a1 a2 a3 a6 → post ((nI mh), pl, (nI 15), qh, qc, jd, st, ap, tp, md, ch, fk, a1, a2, a3, a4, a5, a6, a7, a8, a9, a10)) : wpX_judge post ((nI mh), pl, (nI 15), qh, qc, jd, st, ap, tp, md, ch, fk, a1, a2, a3, a4, a5, a6, a7, a8, a9, a10) := by
  unfold wpX_judge
  dsimp only
  rcases hj with e | ⟨e, J⟩
  · have n15 : ¬ nI 15 = 0 := by decide
    have n1 : ¬ (1 : Int32) = 0 := by decide
    refine br_t e (pj_w_reset (fun a3' a4' a6' a7' h3 h4 h6 => br_f n15 (pj_w_wk (pj_w_wk ?_))))
    have hQ : pj_Q 0 a4' a5 [] := ⟨List.nodup_nil, fun x hx => absurd hx (by simp), fun n hn => ⟨fun z => absurd z (by simp), fun _ => h4 n hn⟩, fun i x hx => absurd hx (by simp)⟩
    refine pj_w_reach (p := 0) (h := 0) (H := 0) (m := pj_fresh) (Q := []) (by omega) (by omega) (by omega) hQ hv (fun a3'' a4'' a5'' Q hQ' hv' R => ⟨1601, ?_⟩)
    have I0 : pj_I mh a1 a2 a3' [] (fun _ => True) := ⟨fun n hn z => absurd (h3 n hn) z, fun x hx => absurd hx (by simp), fun C c n hn => by rw [h3 n hn]; exact pj_le_0 _, fun n hn _ _ z => absurd (h3 n (by omega)) z⟩
    have I1 := pj_R_I I0 R (by omega) pj_good_fresh (fun C c => c.1)
    refine pj_w_rounds g hm (fun qh qc a3 a4 a5 hv I hf => ?_) 1601 0 0 Q a3'' a4'' a5'' (by omega) (by omega) hQ' hv' I1 (pj_R_ge R) (pj_R_sum R pj_good_fresh.1 (by omega) (by simp))
    unfold wX_judge_122
    exact pj_w_note g hm h6 (fun a6 N => pj_w_measure g hm hv (fun qh qc a5 a7 hv => K _ _ 1 _ _ _ _ _ hv n1 ⟨pj_I_closed I hf, I.1, I.2.2.1, N⟩))
  · exact br_f e (K _ _ _ _ _ _ _ _ hv e J)
end
section
/-! values against kinds; what a step leaves -/
def pj_v (md : Nat) (v : Int32) : Prop := ∃ j, j < md ∧ v = nI j
def pj_vk (md : Nat) (k v : Int32) : Prop := k = 2 → pj_v md v
def pj_sv (md h : Nat) (g a8 a9 : Nat → Int32) : Prop := (∀ i, i < h → pj_vk md (g i) (a8 i)) ∧ (∀ l, l < 2 → pj_vk md (g (4 + l)) (a9 l))
theorem pj_vk_1 (md : Nat) (v : Int32) : pj_vk md 1 v := fun z => absurd z (by decide)
theorem pj_vk_0 (md : Nat) (v : Int32) : pj_vk md 0 v := fun z => absurd z (by decide)
theorem pj_vk_up {md : Nat} {k v : Int32} (h : pj_vk md k v) : pj_vk (md + 1) k v := fun z => by
  obtain ⟨j, hj, e⟩ := h z
  exact ⟨j, by omega, e⟩
theorem pj_vk_new (md : Nat) (k : Int32) : pj_vk (md + 1) k (nI md) := fun _ => ⟨md, by omega, rfl⟩
theorem pj_vk_both {md p i : Nat} {g a : Nat → Int32} {k x : Int32} (he : i = p → pj_vk md k x) (hn : i ≠ p → pj_vk md (g i) (a i)) : pj_vk md (upd g p k i) (upd a p x i) := by
  unfold upd
  by_cases e : i = p
  · rw [if_pos e, if_pos e]; exact he e
  · rw [if_neg e, if_neg e]; exact hn e
theorem pj_vk_k {md p i : Nat} {g : Nat → Int32} {k x : Int32} (he : i = p → pj_vk md k x) (hn : i ≠ p → pj_vk md (g i) x) : pj_vk md (upd g p k i) x := by
  unfold upd
  by_cases e : i = p
  · rw [if_pos e]; exact he e
  · rw [if_neg e]; exact hn e
theorem pj_sv0 {md h a : Nat} {g a8 a9 : Nat → Int32} {x : Int32} (hh : h < 4) (s : pj_sv md h g a8 a9) : pj_sv md (pj_nh 0 h) (pj_kaf 0 a h g) (upd a8 h x) a9 :=
  ⟨fun i hi => pj_vk_both (fun _ => pj_vk_1 _ _) (fun z => s.1 i (by change i < h + 1 at hi; omega)), fun l hl => pj_vk_k (fun _ => pj_vk_1 _ _) (fun _ => s.2 l hl)⟩
theorem pj_sv1 {md h a : Nat} {g a8 a9 : Nat → Int32} (hh : h < 4) (s : pj_sv md h g a8 a9) : pj_sv (md + 1) (pj_nh 1 h) (pj_kaf 1 a h g) (upd a8 h (nI md)) a9 :=
  ⟨fun i hi => pj_vk_both (fun _ => pj_vk_new _ _) (fun z => pj_vk_up (s.1 i (by change i < h + 1 at hi; omega))), fun l hl => pj_vk_k (fun z => by omega) (fun _ => pj_vk_up (s.2 l hl))⟩
theorem pj_sv2 {md h a : Nat} {g a8 a9 : Nat → Int32} (h1 : 1 ≤ h) (hh : h ≤ 4) (s : pj_sv md h g a8 a9) : pj_sv md (pj_nh 2 h) (pj_kaf 2 a h g) a8 a9 :=
  ⟨fun i hi => pj_vk_k (fun _ => pj_vk_0 _ _) (fun z => s.1 i (by change i < h - 1 at hi; omega)), fun l hl => pj_vk_k (fun _ => pj_vk_0 _ _) (fun _ => s.2 l hl)⟩
theorem pj_sv3 {md h a : Nat} {g a8 a9 : Nat → Int32} (h1 : 1 ≤ h) (hh : h < 4) (s : pj_sv md h g a8 a9) : pj_sv md (pj_nh 3 h) (pj_kaf 3 a h g) (upd a8 h (a8 (h - 1))) a9 :=
  ⟨fun i hi => pj_vk_both (fun _ => s.1 _ (by omega)) (fun z => s.1 i (by change i < h + 1 at hi; omega)), fun l hl => pj_vk_k (fun z => by omega) (fun _ => s.2 l hl)⟩
theorem pj_sv4 {md h a : Nat} {g a8 a9 : Nat → Int32} (h1 : 2 ≤ h) (hh : h ≤ 4) (s : pj_sv md h g a8 a9) : pj_sv md (pj_nh 4 h) (pj_kaf 4 a h g) (upd (upd a8 (h - 1) (a8 (h - 2))) (h - 2) (a8 (h - 1))) a9 :=
  ⟨fun i hi => pj_vk_both (fun _ => s.1 _ (by omega)) (fun z => pj_vk_both (fun _ => s.1 _ (by omega)) (fun z => s.1 i (by change i < h at hi; omega))), fun l hl => pj_vk_k (fun z => by omega) (fun _ => pj_vk_k (fun z => by omega) (fun _ => s.2 l hl))⟩
theorem pj_sv5 {md h a : Nat} {g a8 a9 : Nat → Int32} {x : Int32} (h1 : 2 ≤ h) (hh : h ≤ 4) (s : pj_sv md h g a8 a9) : pj_sv md (pj_nh 5 h) (pj_kaf 5 a h g) (upd a8 (h - 2) x) a9 :=
  ⟨fun i hi => pj_vk_both (fun _ => pj_vk_1 _ _) (fun z => pj_vk_k (fun _ => pj_vk_0 _ _) (fun z => s.1 i (by change i < h - 1 at hi; omega))), fun l hl => pj_vk_k (fun z => by omega) (fun _ => pj_vk_k (fun z => by omega) (fun _ => s.2 l hl))⟩
theorem pj_sv6 {md h a : Nat} {g a8 a9 : Nat → Int32} {x : Int32} (h1 : 1 ≤ h) (hh : h ≤ 4) (s : pj_sv md h g a8 a9) : pj_sv md (pj_nh 6 h) (pj_kaf 6 a h g) (upd a8 (h - 1) x) a9 :=
  ⟨fun i hi => pj_vk_both (fun _ => pj_vk_1 _ _) (fun z => s.1 i (by change i < h at hi; omega)), fun l hl => pj_vk_k (fun z => by omega) (fun _ => s.2 l hl)⟩
theorem pj_sv7 {md h a : Nat} {g a8 a9 : Nat → Int32} (h1 : 2 ≤ h) (hh : h ≤ 4) (s : pj_sv md h g a8 a9) : pj_sv md (pj_nh 7 h) (pj_kaf 7 a h g) a8 a9 :=
  ⟨fun i hi => pj_vk_k (fun _ => pj_vk_0 _ _) (fun z => pj_vk_k (fun _ => pj_vk_0 _ _) (fun z => s.1 i (by change i < h - 2 at hi; omega))), fun l hl => pj_vk_k (fun z => by omega) (fun _ => pj_vk_k (fun z => by omega) (fun _ => s.2 l hl))⟩
theorem pj_sv8 {md h a : Nat} {g a8 a9 : Nat → Int32} (ha : a < 2) (hh : h < 4) (s : pj_sv md h g a8 a9) : pj_sv md (pj_nh 8 h) (pj_kaf 8 a h g) (upd a8 h (a9 a)) a9 :=
  ⟨fun i hi => pj_vk_both (fun _ => s.2 _ ha) (fun z => s.1 i (by change i < h + 1 at hi; omega)), fun l hl => pj_vk_k (fun z => by omega) (fun _ => s.2 l hl)⟩
theorem pj_sv9 {md h a : Nat} {g a8 a9 : Nat → Int32} (ha : a < 2) (h1 : 1 ≤ h) (hh : h ≤ 4) (s : pj_sv md h g a8 a9) : pj_sv md (pj_nh 9 h) (pj_kaf 9 a h g) a8 (upd a9 a (a8 (h - 1))) := by
  refine ⟨fun i hi => pj_vk_k (fun z => by change i < h - 1 at hi; omega) (fun _ => pj_vk_k (fun z => by change i < h - 1 at hi; omega) (fun z => s.1 i (by change i < h - 1 at hi; omega))), fun l hl => ?_⟩
  by_cases e : l = a
  · rw [e, pk_us]
    exact pj_vk_k (fun _ => s.1 _ (by omega)) (fun z => absurd rfl z)
  · rw [pk_un e]
    exact pj_vk_k (fun z => by omega) (fun _ => pj_vk_k (fun z => by omega) (fun _ => s.2 l hl))
/-- the machine stands at a reached node, its values fit the node's kinds -/
def pj_run (M a8 a9 : Nat → Int32) (p h md : Nat) : Prop := p < 15 ∧ h ≤ 4 ∧ M (p * 5 + h) ≠ 0 ∧ pj_sv md h (pj_kv (M (p * 5 + h))) a8 a9
def pj_clean (mh : Nat) (a1 a2 C : Nat → Int32) (i : Nat) : Prop := pj_closed mh a1 a2 C ∧ ∀ p, p < i → p < 15 → ∀ h, h ≤ 4 → C (p * 5 + h) ≠ 0 → pj_ok mh a1 a2 p h (C (p * 5 + h))
theorem pj_good_at {mh : Nat} {a1 a2 M a6 : Nat → Int32} (J : pj_J mh a1 a2 M a6) {p h : Nat} (hp : p < 15) (hh : h ≤ 4) (hz : M (p * 5 + h) ≠ 0) : pj_good h (M (p * 5 + h)) := by
  have := (J.2.1 (p * 5 + h) (by omega) hz).2
  rwa [show (p * 5 + h) % 5 = h by omega] at this
theorem pj_clean_J {mh : Nat} {a1 a2 M C a6 : Nat → Int32} {i : Nat} (J : pj_J mh a1 a2 M a6) (c : pj_clean mh a1 a2 C i) : pj_clean mh a1 a2 M i := by
  refine ⟨J.1, fun p hi hp h hh hz => ?_⟩
  have l := J.2.2.1 C c.1 (p * 5 + h) (by omega)
  exact pj_ok_mono (pj_good_at J hp hh hz) l (c.2 p hi hp h hh (pj_le_nz l hz))
theorem pj_clean_0 {mh : Nat} {a1 a2 M a6 : Nat → Int32} (J : pj_J mh a1 a2 M a6) {i : Nat} (hi : 15 ≤ i) (c : pj_clean mh a1 a2 M i) : ∀ p, p < 15 → a6 p = 0 := by
  intro p hp
  obtain ⟨f, hf, e, q⟩ := J.2.2.2 p (by omega)
  have : f = 0 := q.mpr (fun h hh hz => c.2 p (by omega) hp h hh hz)
  rw [e, this]
  rfl
theorem pj_run_next {mh : Nat} {a1 a2 M a6 a8 a9 : Nat → Int32} {p h q md : Nat} (g : pj_prog a1 a2) (hm : mh ≤ 4) (J : pj_J mh a1 a2 M a6) (hp : p < 15) (hh : h ≤ 4) (hz : M (p * 5 + h) ≠ 0) (r : pj_rf mh (pj_op a1 p) h = 0) (s : pj_suc a1 a2 p q) (v : pj_sv md (pj_nh (pj_op a1 p) h) (pj_kaf (pj_op a1 p) (pj_arg a2 p) h (pj_kv (M (p * 5 + h)))) a8 a9) : pj_run M a8 a9 q (pj_nh (pj_op a1 p) h) md := by
  have gT := pj_good_T g hm (by omega) hh r (pj_good_at J hp hh hz)
  have l := J.1.2 p h hp hh hz r q s
  have nle := pj_nh_le hm r hh
  have e := (pj_kv_af (m := M (p * 5 + h)) (a := pj_arg a2 p) (g p (by omega)).2.1 hm hh (fun z => ((g p (by omega)).2.2 z).2) r).1
  have k : ∀ i, i < 6 → pj_kv (pj_T a1 a2 p h (M (p * 5 + h))) i ≠ 0 → pj_kv (M (q * 5 + pj_nh (pj_op a1 p) h)) i = 2 → pj_kaf (pj_op a1 p) (pj_arg a2 p) h (pj_kv (M (p * 5 + h))) i = 2 := by
    intro i hi nz e2
    have := pj_below2 (pj_kv_kind _ i) nz (pj_kv_mono l i) e2
    rw [pj_T_eq g (by omega), e i hi] at this
    exact this
  refine ⟨s.1, nle, pj_le_nz l (pj_good_nz gT), fun i hi e2 => ?_, fun j hj e2 => ?_⟩
  · exact v.1 i hi (k i (by omega) (gT.2.1 i hi) e2)
  · refine v.2 j hj (k (4 + j) (by omega) ?_ e2)
    have : j = 0 ∨ j = 1 := by omega
    rcases this with rfl | rfl
    · exact gT.2.2.1
    · exact gT.2.2.2

/-! walks: cells -/
theorem pj_and3 : ∀ h, h < 4 → nI h &&& 3 = nI h := by decide +kernel
theorem pj_and1 : ∀ h, h < 2 → nI h &&& 1 = nI h := by decide +kernel
theorem pj_w_get {post : Int32 → Prop} {mh pl sz qh qc jd st ap tp md ch fk : Int32} {a1 a2 a3 a4 a5 a6 a7 a8 a9 a10 : Nat → Int32} {x : Int32} (H : post (a8 (x &&& 3).toNatClampNeg)) : wpX_getCell post (mh, pl, sz, qh, qc, jd, st, ap, tp, md, ch, fk, a1, a2, a3, a4, a5, a6, a7, a8, a9, a10) x := ⟨pk_andIn _ (m := 3) 2 (by decide) (by omega), H⟩
theorem pj_w_set {post : St2 → Prop} {mh pl sz qh qc jd st ap tp md ch fk : Int32} {a1 a2 a3 a4 a5 a6 a7 a8 a9 a10 : Nat → Int32} {x v : Int32} {i : Nat} (hi : i < 4) (hx : x = nI i) (H : post (mh, pl, sz, qh, qc, jd, st, ap, tp, md, ch, fk, a1, a2, a3, a4, a5, a6, a7, (upd a8 i v), a9, a10)) : wpX_setCell post (mh, pl, sz, qh, qc, jd, st, ap, tp, md, ch, fk, a1, a2, a3, a4, a5, a6, a7, a8, a9, a10) x v := by
  unfold wpX_setCell
  dsimp only
  rw [hx, pj_and3 i hi, nI_clamp (by omega)]
  exact ⟨pk_in i 4 hi, nm_e H⟩
theorem pj_w_combine {post : St2 → Prop} {mh pl sz qh qc jd st ap md ch fk : Int32} {a1 a2 a3 a4 a5 a6 a7 a8 a9 a10 : Nat → Int32} {k h a md' : Nat} {gg : Nat → Int32} (hk : k = 4 ∨ k = 5 ∨ k = 6 ∨ k = 7 ∨ k = 12) (hn : pj_needs k ≤ h) (hh : h ≤ 4) (s : pj_sv md' h gg a8 a9) (K : ∀ a8' a10' : Nat → Int32, pj_sv md' (pj_nh k h) (pj_kaf k a h gg) a8' a9 → post (mh, pl, sz, qh, qc, jd, st, ap, (nI h), md, ch, fk, a1, a2, a3, a4, a5, a6, a7, a8', a9, a10')) : wpX_combine post (mh, pl, sz, qh, qc, jd, st, ap, (nI h), md, ch, fk, a1, a2, a3, a4, a5, a6, a7, a8, a9, a10) (nI k) := by
  unfold wpX_combine
  dsimp only
  refine pj_w_get (pj_w_get ?_)
  rcases hk with rfl | rfl | rfl | rfl | rfl
  · have hn : 2 ≤ h := hn
    rw [pj_h1 (by omega), pj_h2 hn, pj_and3 (h - 1) (by omega), pj_and3 (h - 2) (by omega), nI_clamp (show h - 1 < 2 ^ 31 by omega), nI_clamp (show h - 2 < 2 ^ 31 by omega)]
    refine br_t (by decide) (pj_w_set (i := h - 1) (by omega) rfl ?_)
    exact pj_w_set (i := h - 2) (by omega) (pj_h2 hn) (K _ _ (pj_sv4 hn hh s))
  · have hn : 2 ≤ h := hn
    refine br_f (by decide) (br_t (by decide) (pj_w_set (i := h - 2) (by omega) (pj_h2 hn) ?_))
    exact K _ _ (pj_sv5 hn hh s)
  · have hn : 1 ≤ h := hn
    refine br_f (by decide) (br_f (by decide) (br_t (by decide) ⟨pk_andIn _ (m := 7) 3 (by decide) (by omega), pj_w_set (i := h - 1) (by omega) (pj_h1 hn) ?_⟩))
    exact K _ _ (pj_sv6 hn hh s)
  · have hn : 2 ≤ h := hn
    refine br_f (by decide) (br_f (by decide) (br_f (by decide) (br_t (by decide) ⟨pk_andIn _ (m := 7) 3 (by decide) (by omega), nm_e ?_⟩)))
    exact K _ _ (pj_sv7 hn hh s)
  · have hn : 2 ≤ h := hn
    refine br_f (by decide) (br_f (by decide) (br_f (by decide) (br_f (by decide) (br_c (fun _ => ?_) (fun _ => ?_)))))
    · exact pj_w_set (i := h - 2) (by omega) (pj_h2 hn) (K _ _ (pj_sv5 (a := a) hn hh s))
    · exact pj_w_set (i := h - 2) (by omega) (pj_h2 hn) (K _ _ (pj_sv5 (a := a) hn hh s))
theorem pj_w_work {post : St2 → Prop} {mh pl sz qh qc jd st ap ch fk : Int32} {a1 a2 a3 a4 a5 a6 a7 a8 a9 a10 : Nat → Int32} {mh' k h a md : Nat} {x : Int32} {gg : Nat → Int32} (hk : k < 14) (h10 : k ≠ 10) (h11 : k ≠ 11) (h13 : k ≠ 13) (hm : mh' ≤ 4) (hh : h ≤ 4) (r : pj_rf mh' k h = 0) (ha : k = 8 ∨ k = 9 → x = nI a ∧ a < 2) (hmd : md ≤ 8) (hnew : k = 1 → md < 8) (s : pj_sv md h gg a8 a9)
    (K : ∀ (md' : Nat) (a8' a9' a10' : Nat → Int32), md' ≤ 8 → pj_sv md' (pj_nh k h) (pj_kaf k a h gg) a8' a9' → post (mh, pl, sz, qh, qc, jd, st, ap, (nI (pj_nh k h)), (nI md'), ch, fk, a1, a2, a3, a4, a5, a6, a7, a8', a9', a10')) :
    wpX_work post (mh, pl, sz, qh, qc, jd, st, ap, (nI h), (nI md), ch, fk, a1, a2, a3, a4, a5, a6, a7, a8, a9, a10) (nI k) x := by
  have n := pj_rf_needs r
  have room := pj_rf_room r
  have via : k = 4 ∨ k = 5 ∨ k = 6 ∨ k = 7 ∨ k = 12 → wX_work_184 post (nI k) (nI (pj_nh k h)) mh pl sz qh qc jd st ap (nI h) (nI md) ch fk a1 a2 a3 a4 a5 a6 a7 a8 a9 a10 := by
    intro e
    unfold wX_work_184
    exact pj_w_combine (a := a) e n hh s (fun a8' a10' s' => K md a8' a9 a10' hmd s')
  unfold wpX_work
  dsimp only
  refine pj_w_growth hk (nm_r (pj_nh_gr k hk h (by omega) n) ?_)
  rcases pj_or14 hk with rfl | rfl | rfl | rfl | rfl | rfl | rfl | rfl | rfl | rfl | rfl | rfl | rfl | rfl
  · have := room (by omega)
    refine br_f (by decide) (br_f (by decide) (br_t (by decide) (pj_w_set (i := h) (by omega) rfl ?_)))
    exact K md _ a9 a10 hmd (pj_sv0 (by omega) s)
  · have := room (by omega)
    have := hnew rfl
    refine br_f (by decide) (br_f (by decide) (br_f (by decide) (br_t (by decide) (pj_w_set (i := h) (by omega) rfl ⟨pk_andIn _ (m := 7) 3 (by decide) (by omega), nm_e (nm_r (nI_1 md) ?_)⟩))))
    exact K (md + 1) _ a9 _ (by omega) (pj_sv1 (by omega) s)
  · refine br_f (by decide) (br_f (by decide) (br_f (by decide) (br_f (by decide) (br_t (by decide) ?_))))
    exact K md a8 a9 a10 hmd (pj_sv2 n hh s)
  · have := room (by omega)
    have n : 1 ≤ h := n
    refine br_f (by decide) (br_f (by decide) (br_f (by decide) (br_f (by decide) (br_f (by decide) (br_t (by decide) ⟨pk_andIn _ (m := 3) 2 (by decide) (by omega), pk_andIn _ (m := 3) 2 (by decide) (by omega), ?_⟩)))))
    rw [pj_h1 n, pj_and3 (h - 1) (by omega), pj_and3 h (by omega), nI_clamp (show h - 1 < 2 ^ 31 by omega), nI_clamp (show h < 2 ^ 31 by omega)]
    exact nm_e (K md _ a9 a10 hmd (pj_sv3 n (by omega) s))
  · exact br_f (by decide) (br_f (by decide) (br_f (by decide) (br_f (by decide) (br_f (by decide) (br_f (by decide) (br_t (by decide) (via (by omega))))))))
  · exact br_f (by decide) (br_f (by decide) (br_f (by decide) (br_f (by decide) (br_f (by decide) (br_f (by decide) (br_f (by decide) (br_t (by decide) (via (by omega)))))))))
  · exact br_f (by decide) (br_f (by decide) (br_f (by decide) (br_f (by decide) (br_f (by decide) (br_f (by decide) (br_f (by decide) (br_f (by decide) (br_t (by decide) (via (by omega))))))))))
  · exact br_f (by decide) (br_f (by decide) (br_f (by decide) (br_f (by decide) (br_f (by decide) (br_f (by decide) (br_f (by decide) (br_f (by decide) (br_f (by decide) (br_t (by decide) (via (by omega)))))))))))
  · have := room (by omega)
    obtain ⟨ex, ha⟩ := ha (by omega)
    refine br_f (by decide) (br_f (by decide) (br_f (by decide) (br_f (by decide) (br_f (by decide) (br_f (by decide) (br_f (by decide) (br_f (by decide) (br_f (by decide) (br_f (by decide) (br_t (by decide) ?_))))))))))
    rw [ex, pj_and1 a ha, nI_clamp (show a < 2 ^ 31 by omega)]
    exact ⟨pk_in a 2 ha, pj_w_set (i := h) (by omega) rfl (K md _ a9 a10 hmd (pj_sv8 ha (by omega) s))⟩
  · obtain ⟨ex, ha⟩ := ha (by omega)
    have n : 1 ≤ h := n
    refine br_f (by decide) (br_f (by decide) (br_f (by decide) (br_f (by decide) (br_f (by decide) (br_f (by decide) (br_f (by decide) (br_f (by decide) (br_f (by decide) (br_f (by decide) (br_f (by decide) (br_t (by decide) (pj_w_get ?_))))))))))))
    rw [ex, pj_and1 a ha, nI_clamp (show a < 2 ^ 31 by omega), pj_h1 n, pj_and3 (h - 1) (by omega), nI_clamp (show h - 1 < 2 ^ 31 by omega)]
    exact ⟨pk_in a 2 ha, nm_e (K md a8 _ a10 hmd (pj_sv9 ha n hh s))⟩
  · exact absurd rfl h10
  · exact absurd rfl h11
  · exact br_f (by decide) (br_t (by decide) (via (by omega)))
  · exact absurd rfl h13
end
section
/-! carry, step, holds, verdict, start -/
theorem pj_nolv10 {a1 a2 : Nat → Int32} {p : Nat} (l : ¬ pj_lv a1 a2 p) (h : pj_op a1 p = 10) : ∃ q, a2 p = nI q ∧ pj_suc a1 a2 p q := by
  have : pj_in (a2 p) := Classical.byContradiction (fun z => l (Or.inl ⟨h, z⟩))
  obtain ⟨q, hq, e⟩ := this
  exact ⟨q, e, hq, Or.inl ⟨h, e⟩⟩
theorem pj_nolv11 {a1 a2 : Nat → Int32} {p : Nat} (l : ¬ pj_lv a1 a2 p) (h : pj_op a1 p = 11) : ∃ q, a2 p = nI q ∧ pj_suc a1 a2 p q := by
  have : pj_in (a2 p) := Classical.byContradiction (fun z => l (Or.inr (Or.inr ⟨h, z⟩)))
  obtain ⟨q, hq, e⟩ := this
  exact ⟨q, e, hq, Or.inr (Or.inr ⟨h, e⟩)⟩
theorem pj_nolv {a1 a2 : Nat → Int32} {p : Nat} (l : ¬ pj_lv a1 a2 p) (h : pj_op a1 p ≠ 10) (h' : pj_op a1 p ≠ 13) : pj_suc a1 a2 p (p + 1) := by
  have : p + 1 < 15 := Classical.byContradiction (fun z => l (Or.inr (Or.inl ⟨h, h', z⟩)))
  exact ⟨this, Or.inr (Or.inl ⟨h, h', rfl⟩)⟩
theorem pj_w_carry {post : St2 → Prop} {pl sz qh qc jd st ch fk : Int32} {a1 a2 a3 a4 a5 a6 a7 a8 a9 a10 : Nat → Int32} {mh p h md : Nat} (g : pj_prog a1 a2) (hm : mh ≤ 4) (J : pj_J mh a1 a2 a3 a6) (c : pj_clean mh a1 a2 a3 15) (R : pj_run a3 a8 a9 p h md) (hmd : md ≤ 8) (hnew : pj_op a1 p = 1 → md < 8)
    (K : ∀ (st fk : Int32) (p h md : Nat) (a8 a9 a10 : Nat → Int32), pj_run a3 a8 a9 p h md → md ≤ 8 → post ((nI mh), pl, sz, qh, qc, jd, st, (nI p), (nI h), (nI md), ch, fk, a1, a2, a3, a4, a5, a6, a7, a8, a9, a10)) :
    wpX_carry post ((nI mh), pl, sz, qh, qc, jd, st, (nI p), (nI h), (nI md), ch, fk, a1, a2, a3, a4, a5, a6, a7, a8, a9, a10) := by
  obtain ⟨hp, hh, hz, s⟩ := R
  obtain ⟨r, ko, l⟩ := c.2 p hp hp h hh hz
  have hk := (g p (by omega)).2.1
  unfold wpX_carry
  dsimp only
  rw [nI_clamp (show p < 2 ^ 31 by omega)]
  refine ⟨pk_in p 16 (by omega), nm_r (g p (by omega)).1 ⟨pk_in p 16 (by omega), nm_e (pj_w_next g (by omega) ?_)⟩⟩
  refine pk_eq (pj_op a1 p) 13 (fun e => K _ _ p h md _ _ _ ⟨hp, hh, hz, s⟩ hmd) (fun n13 => pk_eq (pj_op a1 p) 11 (fun e => ?_) (fun n11 => pk_eq (pj_op a1 p) 10 (fun e => ?_) (fun n10 => ?_)))
  · have go : ∀ q, pj_suc a1 a2 p q → ∀ x3, x3 = nI q → wX_carry_66 post x3 (nI mh) pl sz qh qc jd st (nI p) (nI h) (nI md) ch fk a1 a2 a3 a4 a5 a6 a7 a8 a9 a10 := by
      intro q su x3 e3
      rw [e3]
      unfold wX_carry_66
      have := pj_run_next (md := md) (a8 := a8) (a9 := a9) g hm J hp hh hz r su (by rw [e]; exact s)
      rw [e] at this
      exact nm_e (K _ _ q h md _ _ _ this hmd)
    have su := pj_nolv l (by omega) (by omega)
    obtain ⟨q, eq, su'⟩ := pj_nolv11 l e
    have nx : pj_nx a1 a2 p = nI (p + 1) := by unfold pj_nx; rw [if_neg (by omega), if_neg (by omega)]
    exact br_c (fun _ => go (p + 1) su _ nx) (fun _ => go q su' _ eq)
  · obtain ⟨q, eq, su⟩ := pj_nolv10 l e
    have nx : pj_nx a1 a2 p = nI q := by unfold pj_nx; rw [if_neg (by omega), if_pos e, eq]
    have := pj_run_next (md := md) (a8 := a8) (a9 := a9) g hm J hp hh hz r su (by rw [e]; exact s)
    rw [e] at this
    rw [nx]
    exact K _ _ q h md _ _ _ this hmd
  · have nx : pj_nx a1 a2 p = nI (p + 1) := by unfold pj_nx; rw [if_neg n13, if_neg n10]
    rw [nx]
    have su := pj_nolv l n10 n13
    refine pj_w_work (a := pj_arg a2 p) hk n10 n11 n13 hm hh r (fun z => (g p (by omega)).2.2 z) hmd hnew s (fun md' a8' a9' a10' hmd' s' => ?_)
    exact K _ _ (p + 1) _ md' a8' a9' a10' (pj_run_next g hm J hp hh hz r su s') hmd'
theorem pj_w_step26 {post : Int32 → St2 → Prop} {sz qh qc jd ch : Int32} {a1 a2 a3 a4 a5 a6 a7 : Nat → Int32} {mh pl N : Nat} (g : pj_prog a1 a2) (hm : mh ≤ 4) (hpl : pl ≤ 8) (hN : N ≤ 64) (J : pj_J mh a1 a2 a3 a6) (c : pj_clean mh a1 a2 a3 15)
    (K : ∀ (x st fk : Int32) (p h md : Nat) (a8 a9 a10 : Nat → Int32), pj_run a3 a8 a9 p h md → md ≤ 8 → post x ((nI mh), (nI pl), sz, qh, qc, jd, st, (nI p), (nI h), (nI md), ch, fk, a1, a2, a3, a4, a5, a6, a7, a8, a9, a10)) :
    ∀ (n i : Nat) (x3 st fk : Int32) (p h md : Nat) (a8 a9 a10 : Nat → Int32), i ≤ N → N - i < n → pj_run a3 a8 a9 p h md → md ≤ 8 → wX_step_26 post (nI N) n x3 (nI i) (nI mh) (nI pl) sz qh qc jd st (nI p) (nI h) (nI md) ch fk a1 a2 a3 a4 a5 a6 a7 a8 a9 a10 := by
  intro n
  induction n with
  | zero => intro i x3 st fk p h md a8 a9 a10 hi hn; omega
  | succ n ih =>
    intro i x3 st fk p h md a8 a9 a10 hi hn R hmd
    have hp := R.1
    refine pk_le N i (fun z => K _ _ _ p h md _ _ _ R hmd) (fun z => br_c (fun y => ⟨pk_in p 16 (by omega), ?_⟩) (fun y => K _ _ _ p h md _ _ _ R hmd))
    have go : (pj_op a1 p = 1 → md < 8) → wX_step_72 post (wX_step_26 post (nI N) n) (nI N) x3 (nI i) (nI mh) (nI pl) sz qh qc jd st (nI p) (nI h) (nI md) ch fk a1 a2 a3 a4 a5 a6 a7 a8 a9 a10 := by
      intro hnew
      unfold wX_step_72
      refine pj_w_carry g hm J c R hmd hnew (fun st fk p h md a8 a9 a10 R hmd => ?_)
      exact nm_e (nm_r (nI_1 i) (ih (i + 1) _ st fk p h md a8 a9 a10 (by omega) (by omega) R hmd))
    rw [nI_clamp (show p < 2 ^ 31 by omega)]
    have hk := (g p (by omega)).2.1
    refine pk_eq (pj_op a1 p) 1 (fun e => pk_lt md pl (fun t => go (fun _ => by omega)) (fun t => ?_)) (fun e => go (fun z => absurd z e)) (g p (by omega)).1
    exact nm_r (nI_1 i) (ih (i + 1) _ _ fk p h md a8 a9 a10 (by omega) (by omega) R hmd)
theorem pj_w_step {post : Int32 → St2 → Prop} {sz qh qc jd st ch fk : Int32} {a1 a2 a3 a4 a5 a6 a7 a8 a9 a10 : Nat → Int32} {mh pl N p h md : Nat} (g : pj_prog a1 a2) (hm : mh ≤ 4) (hpl : pl ≤ 8) (hN : N ≤ 64) (J : pj_J mh a1 a2 a3 a6) (c : pj_clean mh a1 a2 a3 15) (R : pj_run a3 a8 a9 p h md) (hmd : md ≤ 8)
    (K : ∀ (x st fk : Int32) (p h md : Nat) (a8 a9 a10 : Nat → Int32), pj_run a3 a8 a9 p h md → md ≤ 8 → post x ((nI mh), (nI pl), sz, qh, qc, jd, st, (nI p), (nI h), (nI md), ch, fk, a1, a2, a3, a4, a5, a6, a7, a8, a9, a10)) :
    wpX_step post ((nI mh), (nI pl), sz, qh, qc, jd, st, (nI p), (nI h), (nI md), ch, fk, a1, a2, a3, a4, a5, a6, a7, a8, a9, a10) (nI N) := by
  unfold wpX_step
  dsimp only
  exact pk_le 0 N (fun _ => pk_le N 64 (fun _ => ⟨N + 1, pj_w_step26 g hm hpl hN J c K (N + 1) 0 0 st fk p h md a8 a9 a10 (by omega) (by omega) R hmd⟩) (fun z => absurd z (by omega))) (fun z => absurd z (by omega))

/-! holds -/
theorem pj_w_judged {post : St2 → Prop} {mh pl sz qh qc jd st ap tp md ch fk : Int32} {a1 a2 a3 a4 a5 a6 a7 a8 a9 a10 : Nat → Int32} (hj : ¬ jd = 0) (H : post (mh, pl, sz, qh, qc, jd, st, ap, tp, md, ch, fk, a1, a2, a3, a4, a5, a6, a7, a8, a9, a10)) : wpX_judge post (mh, pl, sz, qh, qc, jd, st, ap, tp, md, ch, fk, a1, a2, a3, a4, a5, a6, a7, a8, a9, a10) := br_f hj H
theorem pj_w_heights18 {post : Int32 → St2 → Prop} {mh pl sz qh qc jd st ap tp md ch fk : Int32} {a1 a2 a3 a4 a5 a6 a7 a8 a9 a10 : Nat → Int32} {p h : Nat} (hp : p < 15) (hh : h ≤ 4) (hz : a3 (p * 5 + h) ≠ 0) (K : ∀ x, pj_bt x h = true → post x (mh, pl, sz, qh, qc, jd, st, ap, tp, md, ch, fk, a1, a2, a3, a4, a5, a6, a7, a8, a9, a10)) : ∀ (n i : Nat) (x : Int32), i ≤ 5 → 5 - i < n → (h < i → pj_bt x h = true) → wX_heights_18 post (nI p) mh pl sz qh qc jd st ap tp md ch fk a1 a2 a3 a4 a5 a6 a7 a8 a9 a10 n x (nI i) := by
  intro n
  induction n with
  | zero => intro i x hi hn; omega
  | succ n ih =>
    intro i x hi hn hx
    refine pk_le 5 i (fun z => K x (hx (by omega))) (fun z => ?_)
    rw [pj_node p i]
    refine ⟨pk_in (p * 5 + i) 80 (by omega), ?_⟩
    rw [nI_clamp (show p * 5 + i < 2 ^ 31 by omega)]
    refine br_c (fun y => nm_r (nI_1 i) (ih (i + 1) x (by omega) (by omega) (fun t => ?_))) (fun y => nm_e (nm_r (nI_1 i) (ih (i + 1) _ (by omega) (by omega) (fun t => ?_))))
    · by_cases e : h = i
      · rw [e] at hz; exact absurd y hz
      · exact hx (by omega)
    · rw [pj_bor]
      by_cases e : h = i
      · rw [e, pj_bshl i (by omega) 1 (by omega), decide_eq_true (Nat.le_refl i), Nat.sub_self, show pj_bt 1 0 = true by decide +kernel]
        simp
      · rw [hx (by omega)]
        simp
theorem pj_bit_ne {x : Int32} {h : Nat} (hh : h < 32) (b : pj_bt x h = true) : ¬ (x >>> (nI h &&& 31)) &&& 1 = 0 := by
  intro z
  have : pj_bt ((x >>> (nI h &&& 31)) &&& 1) 0 = pj_bt 0 0 := by rw [z]
  rw [pj_band, pj_bsshr h hh x (by omega), if_pos (by omega), Nat.add_zero, b, pj_b0, show pj_bt 1 0 = true by decide +kernel] at this
  exact absurd this (by decide)
theorem pj_w_heights {post : Int32 → St2 → Prop} {mh pl qh qc jd st ap tp md ch fk : Int32} {a1 a2 a3 a4 a5 a6 a7 a8 a9 a10 : Nat → Int32} {p h : Nat} (hj : ¬ jd = 0) (hp : p < 15) (hh : h ≤ 4) (hz : a3 (p * 5 + h) ≠ 0) (K : ∀ x, pj_bt x h = true → post x (mh, pl, (nI 15), qh, qc, jd, st, ap, tp, md, ch, fk, a1, a2, a3, a4, a5, a6, a7, a8, a9, a10)) : wpX_heights post (mh, pl, (nI 15), qh, qc, jd, st, ap, tp, md, ch, fk, a1, a2, a3, a4, a5, a6, a7, a8, a9, a10) (nI p) := by
  unfold wpX_heights
  dsimp only
  refine pj_w_inside (fun q hq e => br_f (by decide) (pj_w_judged hj ?_)) (fun no => absurd ⟨p, hp, rfl⟩ no)
  exact ⟨6, pj_w_heights18 hp hh hz K 6 0 0 (by omega) (by omega) (fun z => absurd z (by omega))⟩
theorem pj_w_kinds {post : Int32 → St2 → Prop} {mh pl qh qc jd st ap tp md ch fk : Int32} {a1 a2 a3 a4 a5 a6 a7 a8 a9 a10 : Nat → Int32} {p h i : Nat} (hj : ¬ jd = 0) (hp : p < 15) (hh : h ≤ 4) (hi : i < h) (K : post (pj_kv (a3 (p * 5 + h)) i) (mh, pl, (nI 15), qh, qc, jd, st, ap, tp, md, ch, fk, a1, a2, a3, a4, a5, a6, a7, a8, a9, a10)) : wpX_kinds post (mh, pl, (nI 15), qh, qc, jd, st, ap, tp, md, ch, fk, a1, a2, a3, a4, a5, a6, a7, a8, a9, a10) (nI p) (nI h) (nI i) := by
  unfold wpX_kinds
  dsimp only
  refine pj_w_inside (fun q hq e => br_f (by decide) (br_f (nI_pos (by omega)) (pk_lt h 5 (fun _ => br_f (nI_pos (by omega)) (pk_le h i (fun z => absurd z (by omega)) (fun z => br_f (by decide) ?_))) (fun z => absurd z (by omega))))) (fun no => absurd ⟨p, hp, rfl⟩ no)
  unfold wX_kinds_52
  refine pj_w_judged hj ?_
  rw [pj_node p h, nI_clamp (show p * 5 + h < 2 ^ 31 by omega)]
  exact ⟨pk_in (p * 5 + h) 80 (by omega), pj_w_ka K⟩
theorem pj_w_cellX {post : Int32 → Prop} {mh pl sz qh qc jd st ap md ch fk : Int32} {a1 a2 a3 a4 a5 a6 a7 a8 a9 a10 : Nat → Int32} {h i : Nat} (hs : ¬ st = 0) (hi : i < h) (hh : h ≤ 4) (K : post (a8 i)) : wpX_cell post (mh, pl, sz, qh, qc, jd, st, ap, (nI h), md, ch, fk, a1, a2, a3, a4, a5, a6, a7, a8, a9, a10) (nI i) := by
  unfold wpX_cell
  dsimp only
  rw [pj_and3 i (by omega), nI_clamp (show i < 2 ^ 31 by omega)]
  exact br_f hs (br_f (nI_pos (by omega)) (pk_le h i (fun z => absurd z (by omega)) (fun z => ⟨pk_in i 4 (by omega), K⟩)))
theorem pj_w_holds55 {post : Int32 → St2 → Prop} {mh pl qh qc jd st ap md ch fk : Int32} {a1 a2 a3 a4 a5 a6 a7 a8 a9 a10 : Nat → Int32} {p h md' : Nat} (hj : ¬ jd = 0) (hs : ¬ st = 0) (hmd : md' ≤ 8) (R : pj_run a3 a8 a9 p h md') (K : post 1 (mh, pl, (nI 15), qh, qc, jd, st, ap, (nI h), md, ch, fk, a1, a2, a3, a4, a5, a6, a7, a8, a9, a10)) : ∀ (n i : Nat), i ≤ h → h - i < n → wL_holds_55 post (nI p) (nI h) (nI md') n (nI i) mh pl (nI 15) qh qc jd st ap (nI h) md ch fk a1 a2 a3 a4 a5 a6 a7 a8 a9 a10 := by
  obtain ⟨hp, hh, hz, s⟩ := R
  intro n
  induction n with
  | zero => intro i hi hn; omega
  | succ n ih =>
    intro i hi hn
    refine pk_le h i (fun z => K) (fun z => pj_w_kinds hj hp hh z (pj_w_cellX hs z hh (br_c (fun e => ?_) (fun e => nm_r (nI_1 i) (ih (i + 1) (by omega) (by omega))))))
    obtain ⟨j, hj', ej⟩ := s.1 i z e
    rw [ej]
    exact br_f (nI_pos (by omega)) (pk_lt j md' (fun _ => nm_r (nI_1 i) (ih (i + 1) (by omega) (by omega))) (fun y => absurd y (by omega)))
theorem pj_w_holds {post : Int32 → St2 → Prop} {mh pl qh qc jd st ch fk : Int32} {a1 a2 a3 a4 a5 a6 a7 a8 a9 a10 : Nat → Int32} {p h md : Nat} (hj : ¬ jd = 0) (hmd : md ≤ 8) (R : pj_run a3 a8 a9 p h md) (K : post 1 (mh, pl, (nI 15), qh, qc, jd, st, (nI p), (nI h), (nI md), ch, fk, a1, a2, a3, a4, a5, a6, a7, a8, a9, a10)) : wpL_holds post (mh, pl, (nI 15), qh, qc, jd, st, (nI p), (nI h), (nI md), ch, fk, a1, a2, a3, a4, a5, a6, a7, a8, a9, a10) := by
  have hh := R.2.1
  unfold wpL_holds
  dsimp only
  unfold wpX_status
  dsimp only
  refine br_c (fun _ => K) (fun hs => ?_)
  unfold wpX_position wpX_height
  dsimp only
  refine br_f (nI_pos (by omega)) (pk_le h 4 (fun _ => pj_w_heights hj R.1 R.2.1 R.2.2.1 (fun x hx => br_f (pj_bit_ne (by omega) hx) ?_)) (fun z => absurd z (by omega)))
  exact ⟨h + 1, pj_w_holds55 hj hs hmd R K (h + 1) 0 (by omega) (by omega)⟩

/-! verdict and start -/
theorem pj_w_verdict17 {post : Int32 → St2 → Prop} {mh pl qh qc jd st ap tp md ch fk : Int32} {a1 a2 a3 a4 a5 a6 a7 a8 a9 a10 : Nat → Int32} (h6 : ∀ p, p < 15 → a6 p = 0) (K : post 0 (mh, pl, (nI 15), qh, qc, jd, st, ap, tp, md, ch, fk, a1, a2, a3, a4, a5, a6, a7, a8, a9, a10)) : ∀ (n i : Nat), i ≤ 15 → 15 - i < n → wX_verdict_17 post mh pl (nI 15) qh qc jd st ap tp md ch fk a1 a2 a3 a4 a5 a6 a7 a8 a9 a10 n 0 (nI i) := by
  intro n
  induction n with
  | zero => intro i hi hn; omega
  | succ n ih =>
    intro i hi hn
    refine pk_le 15 i (fun z => br_t rfl K) (fun z => ⟨pk_in i 16 (by omega), nm_r (e' := 0) ?_ (nm_r (nI_1 i) (ih (i + 1) (by omega) (by omega)))⟩)
    rw [nI_clamp (by omega), h6 i z]
    decide
theorem pj_w_verdict {post : Int32 → St2 → Prop} {pl qh qc jd st ap tp md ch fk : Int32} {a1 a2 a3 a4 a5 a6 a7 a8 a9 a10 : Nat → Int32} {mh : Nat} {C : Nat → Int32} (g : pj_prog a1 a2) (hm : mh ≤ 4) (hv : pj_qv a5) (hj : jd = 0 ∨ (¬ jd = 0 ∧ pj_J mh a1 a2 a3 a6)) (c : pj_clean mh a1 a2 C 15)
    (K : ∀ (qh qc jd : Int32) (a3 a4 a5 a6 a7 : Nat → Int32), pj_qv a5 → ¬ jd = 0 → pj_J mh a1 a2 a3 a6 → pj_clean mh a1 a2 a3 15 → post 0 ((nI mh), pl, (nI 15), qh, qc, jd, st, ap, tp, md, ch, fk, a1, a2, a3, a4, a5, a6, a7, a8, a9, a10)) : wpX_verdict post ((nI mh), pl, (nI 15), qh, qc, jd, st, ap, tp, md, ch, fk, a1, a2, a3, a4, a5, a6, a7, a8, a9, a10) := by
  unfold wpX_verdict
  dsimp only
  refine br_f (by decide) (pj_w_judge g hm hv hj (fun qh qc jd a3 a4 a5 a6 a7 hv hj J => ⟨16, ?_⟩))
  have c' := pj_clean_J J c
  exact pj_w_verdict17 (pj_clean_0 J (by omega) c') (K _ _ _ _ _ _ _ _ hv hj J c') 16 0 (by omega) (by omega)
theorem pj_w_start {post : Int32 → St2 → Prop} {pl qh qc jd st ap tp md ch fk : Int32} {a1 a2 a3 a4 a5 a6 a7 a8 a9 a10 : Nat → Int32} {mh : Nat} {C : Nat → Int32} {x : Int32} (g : pj_prog a1 a2) (hm : mh ≤ 4) (hv : pj_qv a5) (hj : jd = 0 ∨ (¬ jd = 0 ∧ pj_J mh a1 a2 a3 a6)) (c : pj_clean mh a1 a2 C 15)
    (K : ∀ (qh qc jd : Int32) (a3 a4 a5 a6 a7 a9 : Nat → Int32), pj_qv a5 → ¬ jd = 0 → pj_J mh a1 a2 a3 a6 → pj_clean mh a1 a2 a3 15 → post 1 ((nI mh), pl, (nI 15), qh, qc, jd, 1, 0, 0, 0, x, 0, a1, a2, a3, a4, a5, a6, a7, a8, a9, a10)) : wpX_start post ((nI mh), pl, (nI 15), qh, qc, jd, st, ap, tp, md, ch, fk, a1, a2, a3, a4, a5, a6, a7, a8, a9, a10) x := by
  unfold wpX_start
  dsimp only
  refine pj_w_verdict g hm hv hj c (fun qh qc jd a3 a4 a5 a6 a7 hv hj J c => br_t rfl (nm_e (nm_e ?_)))
  exact K _ _ _ _ _ _ _ _ _ hv hj J c
theorem pj_run_0 {mh : Nat} {a1 a2 M a6 : Nat → Int32} (J : pj_J mh a1 a2 M a6) (a8 a9 : Nat → Int32) : pj_run M a8 a9 0 0 0 := by
  have f := J.1.1
  have k := pj_fresh_kinds f
  refine ⟨by omega, by omega, pj_le_nz f (pj_good_nz pj_good_fresh), fun i hi => absurd hi (by omega), fun l hl e => ?_⟩
  have : l = 0 ∨ l = 1 := by omega
  rcases this with rfl | rfl
  · exact absurd e k.1
  · exact absurd e k.2
end
section
/-! emit and feed -/
theorem pj_w_faultOf {post : Int32 → Prop} {u : St0} {k : Nat} {x : Int32} (hk : k < 14) (hx : k = 8 ∨ k = 9 → ∃ j, j < 2 ∧ x = nI j) (H : post 0) : wpX_faultOf post u (nI k) x := by
  unfold wpX_faultOf
  have f25 : k = 8 ∨ k = 9 → wX_faultOf_25 post x := by
    intro e
    obtain ⟨j, hj, ex⟩ := hx e
    rw [ex]
    unfold wX_faultOf_25
    exact br_f (by decide) (br_f (nI_pos (by omega)) (pk_le j 1 (fun _ => H) (fun z => absurd z (by omega))))
  exact br_f (nI_pos (by omega)) (pk_le k 13 (fun _ => pk_eq k 8 (fun e => f25 (Or.inl e)) (fun _ => pk_eq k 9 (fun e => f25 (Or.inr e)) (fun _ => br_t rfl H))) (fun z => absurd z (by omega)))
theorem pj_w_emit {post : Int32 → St2 → Prop} {mh pl qh qc jd st ap tp md ch fk : Int32} {a1 a2 a3 a4 a5 a6 a7 a8 a9 a10 : Nat → Int32} {i k : Nat} {x : Int32} (hi : i < 15) (hk : k < 14) (hx : k = 8 ∨ k = 9 → ∃ j, j < 2 ∧ x = nI j) (H : ∀ r, post r (mh, pl, (nI (i + 1)), qh, qc, 0, 0, 0, 0, 0, ch, fk, (upd a1 i (nI k)), (upd a2 i x), a3, a4, a5, a6, a7, a8, a9, a10)) : wpX_emit post (mh, pl, (nI i), qh, qc, jd, st, ap, tp, md, ch, fk, a1, a2, a3, a4, a5, a6, a7, a8, a9, a10) (nI k) x := by
  unfold wpX_emit
  dsimp only
  rw [nI_clamp (show i < 2 ^ 31 by omega), pj_byte k (by omega)]
  refine pk_lt i 16 (fun _ => pj_w_faultOf hk hx (br_t rfl ⟨pk_in i 16 (by omega), nm_e ⟨pk_in i 16 (by omega), nm_e (nm_r (nI_1 i) ?_)⟩⟩)) (fun z => absurd z (by omega))
  exact H _
theorem pj_w_patch {post : Int32 → St2 → Prop} {mh pl qh qc jd st ap tp md ch fk : Int32} {a1 a2 a3 a4 a5 a6 a7 a8 a9 a10 : Nat → Int32} {p : Nat} (hp : p < 15) (H : ∀ r, post r (mh, pl, (nI 15), qh, qc, 0, 0, 0, 0, 0, ch, fk, (upd a1 p (nI 10)), (upd a2 p (nI p)), a3, a4, a5, a6, a7, a8, a9, a10)) : wpX_patch post (mh, pl, (nI 15), qh, qc, jd, st, ap, tp, md, ch, fk, a1, a2, a3, a4, a5, a6, a7, a8, a9, a10) (nI p) 10 (nI p) := by
  unfold wpX_patch
  dsimp only
  rw [nI_clamp (show p < 2 ^ 31 by omega)]
  refine br_f (nI_pos (by omega)) (pk_lt p 15 (fun _ => pj_w_faultOf (k := 10) (by omega) (fun z => absurd z (by decide)) (br_t rfl ⟨pk_in p 16 (by omega), nm_e ⟨pk_in p 16 (by omega), nm_e ?_⟩⟩)) (fun z => absurd z (by omega)))
  exact H _
theorem pj_f238 {post : St2 → Prop} {L : Nat} {xs : Nat → Int32} {J5 : Int32 → Int32 → Int32 → Int32 → Int32 → Int32 → Int32 → Int32 → Int32 → Int32 → Int32 → Int32 → Int32 → Int32 → (Nat → Int32) → (Nat → Int32) → (Nat → Int32) → (Nat → Int32) → (Nat → Int32) → (Nat → Int32) → (Nat → Int32) → (Nat → Int32) → (Nat → Int32) → (Nat → Int32) → Prop} {mh pl qh qc jd st ap tp md ch fk : Int32} {a1 a2 a3 a4 a5 a6 a7 a8 a9 a10 : Nat → Int32} {i : Nat} (g : pj_prog a1 a2) (hi : i < 15) (HJ : ∀ (x3 : Int32) (a1 a2 : Nat → Int32), pj_prog a1 a2 → J5 x3 (nI (i + 1)) mh pl (nI (i + 1)) qh qc 0 0 0 0 0 ch fk a1 a2 a3 a4 a5 a6 a7 a8 a9 a10) {k : Nat} {x2 x3 x6 x8 : Int32} (hk : k < 14) (hx : k = 8 ∨ k = 9 → ∃ j, j < 2 ∧ x6 = nI j) : wL_feed_238 post L xs J5 x2 x3 (nI i) (nI k) x6 x8 mh pl (nI i) qh qc jd st ap tp md ch fk a1 a2 a3 a4 a5 a6 a7 a8 a9 a10 := by
  unfold wL_feed_238
  refine pj_w_emit hi hk hx (fun r => ?_)
  have P := pj_prog_upd g i hk hx
  exact br_c (fun _ => br_c (fun _ => nm_e (nm_r (nI_1 i) (HJ _ _ _ P))) (fun _ => br_c (fun _ => nm_e (nm_r (nI_1 i) (HJ _ _ _ P))) (fun _ => br_c (fun _ => nm_e (nm_r (nI_1 i) (HJ _ _ _ P))) (fun _ => br_c (fun _ => nm_e (nm_r (nI_1 i) (HJ _ _ _ P))) (fun _ => br_c (fun _ => nm_e (nm_r (nI_1 i) (HJ _ _ _ P))) (fun _ => nm_r (nI_1 i) (HJ _ _ _ P))))))) (fun _ => nm_e (nm_r (nI_1 i) (HJ _ _ _ P)))
theorem pj_f217 {post : St2 → Prop} {L : Nat} {xs : Nat → Int32} {J5 : Int32 → Int32 → Int32 → Int32 → Int32 → Int32 → Int32 → Int32 → Int32 → Int32 → Int32 → Int32 → Int32 → Int32 → (Nat → Int32) → (Nat → Int32) → (Nat → Int32) → (Nat → Int32) → (Nat → Int32) → (Nat → Int32) → (Nat → Int32) → (Nat → Int32) → (Nat → Int32) → (Nat → Int32) → Prop} {mh pl qh qc jd st ap tp md ch fk : Int32} {a1 a2 a3 a4 a5 a6 a7 a8 a9 a10 : Nat → Int32} {i : Nat} (g : pj_prog a1 a2) (hi : i < 15) (HJ : ∀ (x3 : Int32) (a1 a2 : Nat → Int32), pj_prog a1 a2 → J5 x3 (nI (i + 1)) mh pl (nI (i + 1)) qh qc 0 0 0 0 0 ch fk a1 a2 a3 a4 a5 a6 a7 a8 a9 a10) {k : Nat} {x2 x3 x6 x8 : Int32} (hk : k < 14) (hx : k = 8 ∨ k = 9 → ∃ j, j < 2 ∧ x6 = nI j) : wL_feed_217 post L xs J5 x2 x3 (nI i) (nI k) x6 x8 mh pl (nI i) qh qc jd st ap tp md ch fk a1 a2 a3 a4 a5 a6 a7 a8 a9 a10 := by
  unfold wL_feed_217
  refine pk_eq k 10 (fun e => ?_) (fun _ => pk_eq k 11 (fun e => ?_) (fun _ => pj_f238 g hi HJ hk hx))
  · unfold wL_feed_231
    exact nm_e (pj_f238 g hi HJ hk (fun z => absurd z (by omega)))
  · unfold wL_feed_231
    exact nm_e (pj_f238 g hi HJ hk (fun z => absurd z (by omega)))
theorem pj_f197 {post : St2 → Prop} {L : Nat} {xs : Nat → Int32} {J5 : Int32 → Int32 → Int32 → Int32 → Int32 → Int32 → Int32 → Int32 → Int32 → Int32 → Int32 → Int32 → Int32 → Int32 → (Nat → Int32) → (Nat → Int32) → (Nat → Int32) → (Nat → Int32) → (Nat → Int32) → (Nat → Int32) → (Nat → Int32) → (Nat → Int32) → (Nat → Int32) → (Nat → Int32) → Prop} {mh pl qh qc jd st ap tp md ch fk : Int32} {a1 a2 a3 a4 a5 a6 a7 a8 a9 a10 : Nat → Int32} {i : Nat} (g : pj_prog a1 a2) (hi : i < 15) (HJ : ∀ (x3 : Int32) (a1 a2 : Nat → Int32), pj_prog a1 a2 → J5 x3 (nI (i + 1)) mh pl (nI (i + 1)) qh qc 0 0 0 0 0 ch fk a1 a2 a3 a4 a5 a6 a7 a8 a9 a10) {k : Nat} {x2 x3 x6 x8 : Int32} (hk : k < 14) : wL_feed_197 post L xs J5 x2 x3 (nI i) (nI k) x6 x8 mh pl (nI i) qh qc jd st ap tp md ch fk a1 a2 a3 a4 a5 a6 a7 a8 a9 a10 := by
  unfold wL_feed_197
  have one : ∃ j, j < 2 ∧ x6 &&& 1 = nI j := pk_andE x6 (m := 1) 1 (by decide)
  refine pk_eq k 8 (fun e => ?_) (fun n8 => pk_eq k 9 (fun e => ?_) (fun n9 => pj_f217 g hi HJ hk (fun z => absurd z (by omega))))
  · unfold wL_feed_211
    exact nm_e (pj_f217 g hi HJ hk (fun _ => one))
  · unfold wL_feed_211
    exact nm_e (pj_f217 g hi HJ hk (fun _ => one))
theorem pj_f181 {post : St2 → Prop} {L : Nat} {xs : Nat → Int32} {J5 : Int32 → Int32 → Int32 → Int32 → Int32 → Int32 → Int32 → Int32 → Int32 → Int32 → Int32 → Int32 → Int32 → Int32 → (Nat → Int32) → (Nat → Int32) → (Nat → Int32) → (Nat → Int32) → (Nat → Int32) → (Nat → Int32) → (Nat → Int32) → (Nat → Int32) → (Nat → Int32) → (Nat → Int32) → Prop} {mh pl qh qc jd st ap tp md ch fk : Int32} {a1 a2 a3 a4 a5 a6 a7 a8 a9 a10 : Nat → Int32} {i : Nat} (g : pj_prog a1 a2) (hi : i < 15) (HJ : ∀ (x3 : Int32) (a1 a2 : Nat → Int32), pj_prog a1 a2 → J5 x3 (nI (i + 1)) mh pl (nI (i + 1)) qh qc 0 0 0 0 0 ch fk a1 a2 a3 a4 a5 a6 a7 a8 a9 a10) {k : Nat} {x2 x3 x6 x8 : Int32} (hk : k < 14) : wL_feed_181 post L xs J5 x2 x3 (nI i) (nI k) x6 x8 mh pl (nI i) qh qc jd st ap tp md ch fk a1 a2 a3 a4 a5 a6 a7 a8 a9 a10 := by
  unfold wL_feed_181
  exact br_c (fun _ => pj_f197 g hi HJ hk) (fun _ => br_c (fun _ => pj_f197 g hi HJ hk) (fun _ => pj_f197 (k := 2) g hi HJ (by omega)))
theorem pj_f152 {post : St2 → Prop} {L : Nat} {xs : Nat → Int32} {J5 : Int32 → Int32 → Int32 → Int32 → Int32 → Int32 → Int32 → Int32 → Int32 → Int32 → Int32 → Int32 → Int32 → Int32 → (Nat → Int32) → (Nat → Int32) → (Nat → Int32) → (Nat → Int32) → (Nat → Int32) → (Nat → Int32) → (Nat → Int32) → (Nat → Int32) → (Nat → Int32) → (Nat → Int32) → Prop} {mh pl qh qc jd st ap tp md ch fk : Int32} {a1 a2 a3 a4 a5 a6 a7 a8 a9 a10 : Nat → Int32} {i : Nat} (g : pj_prog a1 a2) (hi : i < 15) (HJ : ∀ (x3 : Int32) (a1 a2 : Nat → Int32), pj_prog a1 a2 → J5 x3 (nI (i + 1)) mh pl (nI (i + 1)) qh qc 0 0 0 0 0 ch fk a1 a2 a3 a4 a5 a6 a7 a8 a9 a10) {k : Nat} {x2 x3 x6 x7 z0 : Int32} (hk : k < 14) : wL_feed_152 post L xs J5 x2 x3 (nI i) (nI k) x6 x7 z0 mh pl (nI i) qh qc jd st ap tp md ch fk a1 a2 a3 a4 a5 a6 a7 a8 a9 a10 := by
  unfold wL_feed_152
  refine br_c (fun _ => pj_f181 g hi HJ hk) (fun _ => br_c (fun _ => ?_) (fun _ => ?_))
  · unfold wL_feed_173
    exact pj_f181 (k := 1) g hi HJ (by omega)
  · unfold wL_feed_173
    exact pj_f181 (k := 0) g hi HJ (by omega)
theorem pj_f147 {post : St2 → Prop} {L : Nat} {xs : Nat → Int32} {J5 : Int32 → Int32 → Int32 → Int32 → Int32 → Int32 → Int32 → Int32 → Int32 → Int32 → Int32 → Int32 → Int32 → Int32 → (Nat → Int32) → (Nat → Int32) → (Nat → Int32) → (Nat → Int32) → (Nat → Int32) → (Nat → Int32) → (Nat → Int32) → (Nat → Int32) → (Nat → Int32) → (Nat → Int32) → Prop} {mh pl qh qc jd st ap tp md ch fk : Int32} {a1 a2 a3 a4 a5 a6 a7 a8 a9 a10 : Nat → Int32} {i : Nat} (g : pj_prog a1 a2) (hi : i < 15) (HJ : ∀ (x3 : Int32) (a1 a2 : Nat → Int32), pj_prog a1 a2 → J5 x3 (nI (i + 1)) mh pl (nI (i + 1)) qh qc 0 0 0 0 0 ch fk a1 a2 a3 a4 a5 a6 a7 a8 a9 a10) {k : Nat} {x2 x3 x6 x7 : Int32} (hk : k < 14) : wL_feed_147 post L xs J5 x2 x3 (nI i) (nI k) x6 x7 mh pl (nI i) qh qc jd st ap tp md ch fk a1 a2 a3 a4 a5 a6 a7 a8 a9 a10 := by
  unfold wL_feed_147
  exact pj_f152 g hi HJ hk
theorem pj_f121 {post : St2 → Prop} {L : Nat} {xs : Nat → Int32} {J5 : Int32 → Int32 → Int32 → Int32 → Int32 → Int32 → Int32 → Int32 → Int32 → Int32 → Int32 → Int32 → Int32 → Int32 → (Nat → Int32) → (Nat → Int32) → (Nat → Int32) → (Nat → Int32) → (Nat → Int32) → (Nat → Int32) → (Nat → Int32) → (Nat → Int32) → (Nat → Int32) → (Nat → Int32) → Prop} {mh pl qh qc jd st ap tp md ch fk : Int32} {a1 a2 a3 a4 a5 a6 a7 a8 a9 a10 : Nat → Int32} {i : Nat} (g : pj_prog a1 a2) (hi : i < 15) (HJ : ∀ (x3 : Int32) (a1 a2 : Nat → Int32), pj_prog a1 a2 → J5 x3 (nI (i + 1)) mh pl (nI (i + 1)) qh qc 0 0 0 0 0 ch fk a1 a2 a3 a4 a5 a6 a7 a8 a9 a10) {k : Nat} {x2 x3 x6 z0 : Int32} (hk : k < 14) : wL_feed_121 post L xs J5 x2 x3 (nI i) (nI k) x6 z0 mh pl (nI i) qh qc jd st ap tp md ch fk a1 a2 a3 a4 a5 a6 a7 a8 a9 a10 := by
  unfold wL_feed_121
  exact br_c (fun _ => pj_f147 g hi HJ hk) (fun _ => br_c (fun _ => pj_f147 g hi HJ hk) (fun _ => br_c (fun _ => pj_f147 g hi HJ hk) (fun _ => br_c (fun _ => pj_f147 g hi HJ hk) (fun _ => pj_f152 g hi HJ hk))))
theorem pj_f79 {post : St2 → Prop} {L : Nat} {xs : Nat → Int32} {J5 : Int32 → Int32 → Int32 → Int32 → Int32 → Int32 → Int32 → Int32 → Int32 → Int32 → Int32 → Int32 → Int32 → Int32 → (Nat → Int32) → (Nat → Int32) → (Nat → Int32) → (Nat → Int32) → (Nat → Int32) → (Nat → Int32) → (Nat → Int32) → (Nat → Int32) → (Nat → Int32) → (Nat → Int32) → Prop} {mh pl qh qc jd st ap tp md ch fk : Int32} {a1 a2 a3 a4 a5 a6 a7 a8 a9 a10 : Nat → Int32} {i : Nat} (g : pj_prog a1 a2) (hi : i < 15) (HJ : ∀ (x3 : Int32) (a1 a2 : Nat → Int32), pj_prog a1 a2 → J5 x3 (nI (i + 1)) mh pl (nI (i + 1)) qh qc 0 0 0 0 0 ch fk a1 a2 a3 a4 a5 a6 a7 a8 a9 a10) {k : Nat} {x2 x3 x6 : Int32} (hk : k < 14) : wL_feed_79 post L xs J5 x2 x3 (nI i) (nI k) x6 mh pl (nI i) qh qc jd st ap tp md ch fk a1 a2 a3 a4 a5 a6 a7 a8 a9 a10 := by
  unfold wL_feed_79
  exact pj_f121 g hi HJ hk
theorem pj_f116 {post : St2 → Prop} {L : Nat} {xs : Nat → Int32} {J5 : Int32 → Int32 → Int32 → Int32 → Int32 → Int32 → Int32 → Int32 → Int32 → Int32 → Int32 → Int32 → Int32 → Int32 → (Nat → Int32) → (Nat → Int32) → (Nat → Int32) → (Nat → Int32) → (Nat → Int32) → (Nat → Int32) → (Nat → Int32) → (Nat → Int32) → (Nat → Int32) → (Nat → Int32) → Prop} {mh pl qh qc jd st ap tp md ch fk : Int32} {a1 a2 a3 a4 a5 a6 a7 a8 a9 a10 : Nat → Int32} {i : Nat} (g : pj_prog a1 a2) (hi : i < 15) (HJ : ∀ (x3 : Int32) (a1 a2 : Nat → Int32), pj_prog a1 a2 → J5 x3 (nI (i + 1)) mh pl (nI (i + 1)) qh qc 0 0 0 0 0 ch fk a1 a2 a3 a4 a5 a6 a7 a8 a9 a10) {k : Nat} {x2 x3 x6 : Int32} (hk : k < 14) : wL_feed_116 post L xs J5 x2 x3 (nI i) (nI k) x6 mh pl (nI i) qh qc jd st ap tp md ch fk a1 a2 a3 a4 a5 a6 a7 a8 a9 a10 := by
  unfold wL_feed_116
  exact pj_f121 g hi HJ hk
theorem pj_f53 {post : St2 → Prop} {L : Nat} {xs : Nat → Int32} {J5 : Int32 → Int32 → Int32 → Int32 → Int32 → Int32 → Int32 → Int32 → Int32 → Int32 → Int32 → Int32 → Int32 → Int32 → (Nat → Int32) → (Nat → Int32) → (Nat → Int32) → (Nat → Int32) → (Nat → Int32) → (Nat → Int32) → (Nat → Int32) → (Nat → Int32) → (Nat → Int32) → (Nat → Int32) → Prop} {mh pl qh qc jd st ap tp md ch fk : Int32} {a1 a2 a3 a4 a5 a6 a7 a8 a9 a10 : Nat → Int32} {i : Nat} (g : pj_prog a1 a2) (hi : i < 15) (HJ : ∀ (x3 : Int32) (a1 a2 : Nat → Int32), pj_prog a1 a2 → J5 x3 (nI (i + 1)) mh pl (nI (i + 1)) qh qc 0 0 0 0 0 ch fk a1 a2 a3 a4 a5 a6 a7 a8 a9 a10) {k : Nat} {x2 x3 x6 : Int32} (hk : k < 14) : wL_feed_53 post L xs J5 x2 x3 (nI i) (nI k) x6 mh pl (nI i) qh qc jd st ap tp md ch fk a1 a2 a3 a4 a5 a6 a7 a8 a9 a10 := by
  unfold wL_feed_53
  exact br_c (fun _ => pj_f79 g hi HJ hk) (fun _ => br_c (fun _ => pj_f79 g hi HJ hk) (fun _ => br_c (fun _ => pj_f79 g hi HJ hk) (fun _ => br_c (fun _ => pj_f79 g hi HJ hk) (fun _ => br_c (fun _ => pj_f116 g hi HJ hk) (fun _ => br_c (fun _ => pj_f116 g hi HJ hk) (fun _ => br_c (fun _ => pj_f116 g hi HJ hk) (fun _ => br_c (fun _ => pj_f116 g hi HJ hk) (fun _ => br_c (fun _ => pj_f116 g hi HJ hk) (fun _ => pj_f121 g hi HJ hk)))))))))
theorem pj_w_cell {post : Int32 → Prop} {L : Nat} {xs : Nat → Int32} {u : St0} {x : Int32} (j : Nat) (hx : x = nI j) (hj : j < 2 ^ 31) (hL : L < 2 ^ 31) (H : ∀ v, post v) : wpL_cell post L xs u x := by
  unfold wpL_cell
  exact pk_le L j (fun _ => H 0) (fun z => ⟨pk_in j L z hx hL, H _⟩) rfl hx hL hj
theorem pj_f5 {post : St2 → Prop} {L : Nat} {xs : Nat → Int32} (hL : L < 2 ^ 31) {mh pl qh qc ch fk : Int32} {a3 a4 a5 a6 a7 a8 a9 a10 : Nat → Int32} {x2 : Int32} (K : ∀ (jd st ap tp md : Int32) (a1 a2 : Nat → Int32), jd = 0 → pj_prog a1 a2 → post (mh, pl, (nI 15), qh, qc, jd, st, ap, tp, md, ch, fk, a1, a2, a3, a4, a5, a6, a7, a8, a9, a10)) : ∀ (n i : Nat) (x3 jd st ap tp md : Int32) (a1 a2 : Nat → Int32), i ≤ 15 → 15 - i < n → jd = 0 → pj_prog a1 a2 → wL_feed_5 post L xs x2 n x3 (nI i) mh pl (nI i) qh qc jd st ap tp md ch fk a1 a2 a3 a4 a5 a6 a7 a8 a9 a10 := by
  intro n
  induction n with
  | zero => intro i x3 jd st ap tp md a1 a2 hi hn; omega
  | succ n ih =>
    intro i x3 jd st ap tp md a1 a2 hi hn hj g
    refine pk_le 15 i (fun z => ?_) (fun z => ?_)
    · have e : i = 15 := by omega
      subst e
      exact K jd st ap tp md a1 a2 hj g
    · have HJ : ∀ (x3 : Int32) (a1 a2 : Nat → Int32), pj_prog a1 a2 → wL_feed_5 post L xs x2 n x3 (nI (i + 1)) mh pl (nI (i + 1)) qh qc 0 0 0 0 0 ch fk a1 a2 a3 a4 a5 a6 a7 a8 a9 a10 := fun x3 a1 a2 g => ih (i + 1) x3 0 0 0 0 0 a1 a2 (by omega) (by omega) rfl g
      have e3 : (3 : Int32) + (2 * nI i) = nI (3 + 2 * i) := by rw [show (2 : Int32) = nI 2 from rfl, pk_mul, show (3 : Int32) = nI 3 from rfl, nI_add]
      have e4 : (4 : Int32) + (2 * nI i) = nI (4 + 2 * i) := by rw [show (2 : Int32) = nI 2 from rfl, pk_mul, show (4 : Int32) = nI 4 from rfl, nI_add]
      refine pj_w_cell (3 + 2 * i) e3 (by omega) hL (fun v => ?_)
      obtain ⟨k, hk, ek⟩ := pk_andE v (m := 15) 4 (by decide)
      refine nm_r ek (pj_w_cell (4 + 2 * i) e4 (by omega) hL (fun w => ?_))
      refine pk_le k 13 (fun y => pj_f53 g z HJ (by omega)) (fun y => ?_) rfl rfl (by omega) (by omega)
      unfold wpL_extra
      exact br_c (fun _ => pj_f53 (k := 1) g z HJ (by omega)) (fun _ => pj_f53 (k := 11) g z HJ (by omega))
theorem pj_w_feed {post : St2 → Prop} {L : Nat} {xs : Nat → Int32} (hL : L < 2 ^ 31) {mh pl sz qh qc jd st ap tp md ch fk : Int32} {a1 a2 a3 a4 a5 a6 a7 a8 a9 a10 : Nat → Int32} {x2 : Int32} (hs : sz = 0) (hj : jd = 0) (g : pj_prog a1 a2) (K : ∀ (jd st ap tp md : Int32) (a1 a2 : Nat → Int32), jd = 0 → pj_prog a1 a2 → post (mh, pl, (nI 15), qh, qc, jd, st, ap, tp, md, ch, fk, a1, a2, a3, a4, a5, a6, a7, a8, a9, a10)) : wpL_feed post L xs (mh, pl, sz, qh, qc, jd, st, ap, tp, md, ch, fk, a1, a2, a3, a4, a5, a6, a7, a8, a9, a10) x2 := by
  subst hs
  exact ⟨16, pj_f5 hL K 16 0 0 jd st ap tp md a1 a2 (by omega) (by omega) hj g⟩
end
section
/-! the law's two loops, and the law -/
theorem pj_w_faults {post : Int32 → St2 → Prop} {pl qh qc jd st ap tp md ch fk : Int32} {a1 a2 a3 a4 a5 a6 a7 a8 a9 a10 : Nat → Int32} {mh p : Nat} (g : pj_prog a1 a2) (hm : mh ≤ 4) (hv : pj_qv a5) (hj : jd = 0 ∨ (¬ jd = 0 ∧ pj_J mh a1 a2 a3 a6)) (hp : p < 16) (K0 : 15 ≤ p → post 0 ((nI mh), pl, (nI 15), qh, qc, jd, st, ap, tp, md, ch, fk, a1, a2, a3, a4, a5, a6, a7, a8, a9, a10))
    (K : p < 15 → ∀ (qh qc jd : Int32) (a3 a4 a5 a6 a7 : Nat → Int32), pj_qv a5 → ¬ jd = 0 → pj_J mh a1 a2 a3 a6 → post (a6 p) ((nI mh), pl, (nI 15), qh, qc, jd, st, ap, tp, md, ch, fk, a1, a2, a3, a4, a5, a6, a7, a8, a9, a10)) : wpX_faults post ((nI mh), pl, (nI 15), qh, qc, jd, st, ap, tp, md, ch, fk, a1, a2, a3, a4, a5, a6, a7, a8, a9, a10) (nI p) := by
  unfold wpX_faults
  dsimp only
  refine pj_w_inside (fun q hq e => br_f (by decide) ?_) (fun no => br_t rfl (K0 ?_))
  · have e2 : p = q := (nI_eq (by omega) (by omega)).mp e
    rw [nI_clamp (show p < 2 ^ 31 by omega)]
    exact pj_w_judge g hm hv hj (fun qh qc jd a3 a4 a5 a6 a7 hv hj J => ⟨pk_in p 16 hp, K (by omega) _ _ _ _ _ _ _ _ hv hj J⟩)
  · rcases Nat.lt_or_ge p 15 with z | z
    · exact absurd ⟨p, z, rfl⟩ no
    · exact z
theorem pj_l109 {L : Nat} {xs : Nat → Int32} {kc ks : Nat} (hL : L < 2 ^ 31) {qh qc jd ch : Int32} {a1 a2 a3 a4 a5 a6 a7 : Nat → Int32} {mh pl : Nat} (g : pj_prog a1 a2) (hm : mh ≤ 4) (hpl : pl ≤ 8) (hj : ¬ jd = 0) (J : pj_J mh a1 a2 a3 a6) (c : pj_clean mh a1 a2 a3 15) :
    ∀ (n i : Nat) (st fk : Int32) (p h md : Nat) (a8 a9 a10 : Nat → Int32), i ≤ 48 → 48 - i < n → pj_run a3 a8 a9 p h md → md ≤ 8 → wL_law_109 (fun r => r = 1) L xs kc ks n (nI i) (nI mh) (nI pl) (nI 15) qh qc jd st (nI p) (nI h) (nI md) ch fk a1 a2 a3 a4 a5 a6 a7 a8 a9 a10 := by
  intro n
  induction n with
  | zero => intro i st fk p h md a8 a9 a10 hi hn; omega
  | succ n ih =>
    intro i st fk p h md a8 a9 a10 hi hn R hmd
    have e33 : (33 : Int32) + nI i = nI (33 + i) := nI_add 33 i
    have n1 : ¬ (1 : Int32) = 0 := by decide
    refine pk_le 48 i (fun z => rfl) (fun z => pj_w_cell (33 + i) e33 (by omega) hL (fun v => ?_))
    obtain ⟨j, hj2, ej⟩ := pk_andE v (m := 1) 1 (by decide)
    have e1 : (1 : Int32) + (v &&& 1) = nI (1 + j) := by rw [ej]; exact nI_add 1 j
    refine nm_r e1 (pj_w_step g hm hpl (by omega) J c R hmd (fun x st fk p h md a8 a9 a10 R hmd => pj_w_holds hj hmd R (br_f n1 (nm_r (nI_1 i) ?_))))
    exact ih (i + 1) st fk p h md a8 a9 a10 (by omega) (by omega) R hmd
theorem pj_clean_15 {mh : Nat} {a1 a2 C : Nat → Int32} {i : Nat} (hi : 15 ≤ i) (c : pj_clean mh a1 a2 C i) : pj_clean mh a1 a2 C 15 := ⟨c.1, fun p h h' => c.2 p (by omega) h'⟩
theorem pj_l40 {L : Nat} {xs : Nat → Int32} {kc ks : Nat} (hL : L < 2 ^ 31) {ch fk : Int32} {a8 a9 a10 : Nat → Int32} {mh pl : Nat} (hm : mh ≤ 4) (hpl : pl ≤ 8) :
    ∀ (n i : Nat) (qh qc jd st ap tp md : Int32) (a1 a2 a3 a4 a5 a6 a7 C : Nat → Int32), i ≤ 16 → 16 - i < n → pj_prog a1 a2 → pj_qv a5 → (jd = 0 ∨ (¬ jd = 0 ∧ pj_J mh a1 a2 a3 a6)) → pj_clean mh a1 a2 C i → wL_law_40 (fun r => r = 1) L xs kc ks n (nI i) (nI mh) (nI pl) (nI 15) qh qc jd st ap tp md ch fk a1 a2 a3 a4 a5 a6 a7 a8 a9 a10 := by
  intro n
  induction n with
  | zero => intro i qh qc jd st ap tp md a1 a2 a3 a4 a5 a6 a7 C hi hn; omega
  | succ n ih =>
    intro i qh qc jd st ap tp md a1 a2 a3 a4 a5 a6 a7 C hi hn g hv hj c
    have n1 : ¬ (1 : Int32) = 0 := by decide
    refine pk_le 16 i (fun z => pj_w_cell 2 rfl (by omega) hL (fun v => ?_)) (fun z => ?_)
    · refine pj_w_start g hm hv hj (pj_clean_15 (by omega) c) (fun qh qc jd a3 a4 a5 a6 a7 a9 hv hj J c => br_f n1 ?_)
      have R := pj_run_0 J a8 a9
      refine pj_w_holds (p := 0) (h := 0) (md := 0) hj (by omega) R (br_f n1 ⟨49, ?_⟩)
      exact pj_l109 hL g hm hpl hj J c 49 0 1 0 0 0 0 a8 a9 a10 (by omega) (by omega) R (by omega)
    · refine pj_w_faults g hm hv hj z (fun y => br_t rfl (nm_r (nI_1 i) ?_)) (fun y qh qc jd a3 a4 a5 a6 a7 hv hj J => ?_)
      · exact ih (i + 1) qh qc jd st ap tp md a1 a2 a3 a4 a5 a6 a7 C (by omega) (by omega) g hv hj ⟨c.1, fun p _ hp => c.2 p (by omega) hp⟩
      · have c' := pj_clean_J J c
        obtain ⟨f, hf, ef, q⟩ := J.2.2.2 i z
        refine pk_eq f 0 (fun e => nm_r (nI_1 i) ?_) (fun e => ?_) ef
        · refine ih (i + 1) qh qc jd st ap tp md a1 a2 a3 a4 a5 a6 a7 a3 (by omega) (by omega) g hv (Or.inr ⟨hj, J⟩) ⟨J.1, fun p hp hp' => ?_⟩
          by_cases t : p = i
          · rw [t]; exact q.mp e
          · exact c'.2 p (by omega) hp'
        · refine pj_w_patch y (fun r => nm_r (nI_1 i) ?_)
          refine ih (i + 1) qh qc 0 0 0 0 0 _ _ a3 a4 a5 a6 a7 a3 (by omega) (by omega) (pj_prog_upd g i (k := 10) (by omega) (fun t => absurd t (by decide))) hv (Or.inl rfl) ⟨pj_patch_closed y J.1, fun p hp hp' h hh hz => ?_⟩
          by_cases t : p = i
          · rw [t]; exact pj_patch_self y
          · exact pj_patch_ok t (c'.2 p (by omega) hp' h hh hz)
theorem pj_le_m1 (x : Int32) : pj_le x (-1) := pj_le_of (fun i hi _ => pj_bm1 i hi)
theorem pj_w_init {post : St2 → Prop} {j k : Nat} (h1 : 1 ≤ j) (h2 : j ≤ 4) (h3 : 1 ≤ k) (h4 : k ≤ 8) (K : post (nI j, nI k, 0, 0, 0, 0, 0, 0, 0, 0, 0, 0, (fun _ => 0), (fun _ => 0), (fun _ => 0), (fun _ => 0), (fun _ => 0), (fun _ => 0), (fun _ => 0), (fun _ => 0), (fun _ => 0), (fun _ => 0))) : wpX_init post 10 430 (0, 0, 0, 0, 0, 0, 0, 0, 0, 0, 0, 0) (nI j) (nI k) := by
  unfold wpX_init
  dsimp only
  refine ⟨by omega, by omega, by omega, by omega, by omega, by omega, by omega, by omega, by omega, by omega, by omega, by omega, by omega, by omega, by omega, by omega, by omega, by omega, by omega, by omega, ?_⟩
  refine pk_le 1 j (fun _ => pk_le j 4 (fun _ => ?_) (fun z => absurd z (by omega))) (fun z => absurd z (by omega))
  unfold wX_init_103
  exact pk_le 1 k (fun _ => pk_le k 8 (fun _ => K) (fun z => absurd z (by omega))) (fun z => absurd z (by omega))
/-! ===== WHAT IS OWED for PathJudgeLaw: one statement: the law answers true on every script of L ints xs ===== -/
theorem i_vc (xs : Nat → Int32) (L : Nat) (hL : L ≤ 260) : wpL_law (fun r => r = 1) L xs := by
  have hL' : L < 2 ^ 31 := by omega
  unfold wpL_law
  refine pj_w_cell 0 rfl (by omega) hL' (fun v => ?_)
  obtain ⟨j, hj, ej⟩ := pk_andE v (m := 3) 2 (by decide)
  have e1 : (1 : Int32) + (v &&& 3) = nI (1 + j) := by rw [ej]; exact nI_add 1 j
  refine nm_r e1 (pj_w_cell 1 rfl (by omega) hL' (fun w => ?_))
  obtain ⟨k, hk, ek⟩ := pk_andE w (m := 7) 3 (by decide)
  have e2 : (1 : Int32) + (w &&& 7) = nI (1 + k) := by rw [ek]; exact nI_add 1 k
  refine nm_r e2 ⟨10, 430, by omega, by omega, pj_w_init (by omega) (by omega) (by omega) (by omega) ?_⟩
  refine pj_w_feed hL' rfl rfl pj_prog_0 (fun jd st ap tp md a1 a2 hj g => ⟨17, ?_⟩)
  refine pj_l40 hL' (by omega) (by omega) 17 0 0 0 jd st ap tp md a1 a2 _ _ _ _ _ (fun _ => -1) (by omega) (by omega) g pj_qv_0 (Or.inl hj) ⟨⟨pj_le_m1 _, fun p h hp hh hz r q s => pj_le_m1 _⟩, fun p hp => absurd hp (by omega)⟩
end
