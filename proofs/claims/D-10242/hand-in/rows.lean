section
/-! Int32 by its bits (rows of the kit's BITS.to-paste under names of our own), then the step of a run and its commutation -/
def tb_bt (x : Int32) (i : Nat) : Bool := x.toBitVec.getLsbD i
theorem tb_ext {x y : Int32} (h : ∀ i, i < 32 → tb_bt x i = tb_bt y i) : x = y := Int32.toBitVec_inj.mp (BitVec.eq_of_getLsbD_eq (fun i hi => h i hi))
theorem tb_or (x y : Int32) (i : Nat) : tb_bt (x ||| y) i = (tb_bt x i || tb_bt y i) := by unfold tb_bt; rw [Int32.toBitVec_or, BitVec.getLsbD_or]
theorem tb_and (x y : Int32) (i : Nat) : tb_bt (x &&& y) i = (tb_bt x i && tb_bt y i) := by unfold tb_bt; rw [Int32.toBitVec_and, BitVec.getLsbD_and]
theorem tb_xor (x y : Int32) (i : Nat) : tb_bt (x ^^^ y) i = (tb_bt x i ^^ tb_bt y i) := by unfold tb_bt; rw [Int32.toBitVec_xor, BitVec.getLsbD_xor]
theorem tb_big {x : Int32} {i : Nat} (h : 32 ≤ i) : tb_bt x i = false := BitVec.getLsbD_of_ge _ _ h
theorem tb_m1 : ∀ i, i < 32 → tb_bt (-1) i = true := by decide +kernel
theorem tb_7 (i : Nat) : tb_bt 7 i = decide (i < 3) := by
  rcases Nat.lt_or_ge i 32 with h | h
  · exact (by decide +kernel : ∀ i, i < 32 → tb_bt 7 i = decide (i < 3)) i h
  · rw [tb_big h, decide_eq_false (by omega)]
theorem tb_3 (i : Nat) : tb_bt 3 i = decide (i < 2) := by
  rcases Nat.lt_or_ge i 32 with h | h
  · exact (by decide +kernel : ∀ i, i < 32 → tb_bt 3 i = decide (i < 2)) i h
  · rw [tb_big h, decide_eq_false (by omega)]
theorem tb_n7 {n i : Nat} (hn : n ≤ 7) (hi : 3 ≤ i) : tb_bt (nI n) i = false := by
  rcases Nat.lt_or_ge i 32 with h | h
  · exact (by decide +kernel : ∀ n, n < 8 → ∀ i, i < 32 → 3 ≤ i → tb_bt (nI n) i = false) n (by omega) i h hi
  · exact tb_big h
theorem tb_n3 {n i : Nat} (hn : n ≤ 3) (hi : 2 ≤ i) : tb_bt (nI n) i = false := by
  rcases Nat.lt_or_ge i 32 with h | h
  · exact (by decide +kernel : ∀ n, n < 4 → ∀ i, i < 32 → 2 ≤ i → tb_bt (nI n) i = false) n (by omega) i h hi
  · exact tb_big h
theorem tb_sl : ∀ n, n < 32 → ((nI n &&& 31).toBitVec.smod 32).toNat = n := by decide +kernel
theorem tb_shl (n : Nat) (hn : n < 32) (x : Int32) {i : Nat} (hi : i < 32) : tb_bt (x <<< (nI n &&& 31)) i = (decide (n ≤ i) && tb_bt x (i - n)) := by
  unfold tb_bt
  rw [Int32.toBitVec_shiftLeft]
  show (x.toBitVec <<< ((nI n &&& 31).toBitVec.smod 32).toNat).getLsbD i = _
  rw [tb_sl n hn, BitVec.getLsbD_shiftLeft]
  rcases Nat.lt_or_ge i n with h | h
  · simp [h, Nat.not_le.mpr h]
  · simp [hi, h, Nat.not_lt.mpr h]
theorem tb_sshr (n : Nat) (hn : n < 32) (x : Int32) {i : Nat} (hi : i < 32) : tb_bt (x >>> (nI n &&& 31)) i = if n + i < 32 then tb_bt x (n + i) else tb_bt x 31 := by
  unfold tb_bt
  rw [Int32.toBitVec_shiftRight]
  show (x.toBitVec.sshiftRight ((nI n &&& 31).toBitVec.smod 32).toNat).getLsbD i = _
  rw [tb_sl n hn, BitVec.getLsbD_sshiftRight, BitVec.msb_eq_getLsbD_last]
  simp [hi]
/-- a field of the packed state: read, write -/
def tx_tg (s : Int32) (o : Nat) (m : Int32) : Int32 := (s >>> (nI o &&& 31)) &&& m
def tx_tp (s : Int32) (o : Nat) (m x : Int32) : Int32 := (s &&& ((m <<< (nI o &&& 31)) ^^^ (-1))) ||| (x <<< (nI o &&& 31))
theorem tb_tpF {s x : Int32} {o i : Nat} (ho : o < 32) (hi : i < 32) (hx : ∀ j, 3 ≤ j → tb_bt x j = false) (h : ¬ (o ≤ i ∧ i < o + 3)) : tb_bt (tx_tp s o 7 x) i = tb_bt s i := by
  unfold tx_tp
  rw [tb_or, tb_and, tb_xor, tb_shl o ho _ hi, tb_shl o ho _ hi, tb_m1 i hi, tb_7]
  by_cases g : o ≤ i
  · rw [hx (i - o) (by omega), decide_eq_false (show ¬ i - o < 3 by omega)]
    simp
  · rw [decide_eq_false g]
    simp
theorem tb_tpW {s x : Int32} {o i : Nat} (ho : o < 32) (hi : i < 32) (h1 : o ≤ i) (h2 : i < o + 3) : tb_bt (tx_tp s o 7 x) i = tb_bt x (i - o) := by
  unfold tx_tp
  rw [tb_or, tb_and, tb_xor, tb_shl o ho _ hi, tb_shl o ho _ hi, tb_m1 i hi, tb_7, decide_eq_true h1, decide_eq_true (show i - o < 3 by omega)]
  simp
theorem tb_and7 (x : Int32) {j : Nat} (h : 3 ≤ j) : tb_bt (x &&& 7) j = false := by
  rw [tb_and, tb_7, decide_eq_false (by omega), Bool.and_false]
theorem tb_tg7 {s s' : Int32} {o : Nat} (ho : o + 3 ≤ 32) (h : ∀ i, i < 32 → o ≤ i → i < o + 3 → tb_bt s i = tb_bt s' i) : tx_tg s o 7 = tx_tg s' o 7 := by
  apply tb_ext
  intro i hi
  unfold tx_tg
  rw [tb_and, tb_and, tb_7]
  by_cases g : i < 3
  · rw [tb_sshr o (by omega) _ hi, tb_sshr o (by omega) _ hi, if_pos (by omega), if_pos (by omega), h (o + i) (by omega) (by omega) (by omega)]
  · rw [decide_eq_false g, Bool.and_false, Bool.and_false]
theorem tb_tg3 {s s' : Int32} {o : Nat} (ho : o + 2 ≤ 32) (h : ∀ i, i < 32 → o ≤ i → i < o + 2 → tb_bt s i = tb_bt s' i) : tx_tg s o 3 = tx_tg s' o 3 := by
  apply tb_ext
  intro i hi
  unfold tx_tg
  rw [tb_and, tb_and, tb_3]
  by_cases g : i < 2
  · rw [tb_sshr o (by omega) _ hi, tb_sshr o (by omega) _ hi, if_pos (by omega), if_pos (by omega), h (o + i) (by omega) (by omega) (by omega)]
  · rw [decide_eq_false g, Bool.and_false, Bool.and_false]
/-- the state after step c: K kinds, P places, N numbers -/
def tx_af (K P N : Nat → Nat) (c : Nat) (s : Int32) : Int32 :=
  if K c = 0 then tx_tp s (9 + 3 * (c / 3)) 7 (tx_tg s (3 * P c) 7)
  else if K c = 1 then tx_tp s (3 * P c) 7 (nI (N c))
  else if K c = 2 then tx_tp s (3 * P c) 7 ((tx_tg s (9 + 3 * (c / 3)) 7 + nI (N c)) &&& 7)
  else if K c = 3 then tx_tp s (3 * P c) 7 ((tx_tg s (3 * P c) 7 + nI (N c)) &&& 7)
  else if K c = 4 then s ||| (nI (c / 3 + 1) <<< (nI (18 + 2 * P c) &&& 31))
  else if tx_tg s (18 + 2 * P c) 3 = nI (c / 3 + 1) then s &&& (((3 : Int32) <<< (nI (18 + 2 * P c) &&& 31)) ^^^ (-1)) else s
def tx_cd (K P : Nat → Nat) (c : Nat) (s : Int32) : Bool := if K c = 4 then decide (tx_tg s (18 + 2 * P c) 3 = 0) else true
def tx_td (K P : Nat → Nat) (a b : Nat) : Bool := decide (a / 3 = b / 3 ∨ (P a = P b ∧ ((4 ≤ K a ∧ 4 ≤ K b) ∨ (K a < 4 ∧ K b < 4 ∧ ¬ (K a = 0 ∧ K b = 0)))))
def tx_wo (K P : Nat → Nat) (c : Nat) : Nat := if K c = 0 then 9 + 3 * (c / 3) else if K c < 4 then 3 * P c else 18 + 2 * P c
def tx_ro (K P : Nat → Nat) (c : Nat) : Nat := if K c = 2 then 9 + 3 * (c / 3) else if K c < 4 then 3 * P c else 18 + 2 * P c
def tx_w (K : Nat → Nat) (c : Nat) : Nat := if K c < 4 then 3 else 2
def tx_ok (S K P N : Nat → Nat) : Prop := (∀ t, t < 3 → S t ≤ 3) ∧ (∀ c, c < 9 → K c ≤ 5 ∧ P c ≤ 2 ∧ N c ≤ 7)
theorem tx_frame {K P N : Nat → Nat} {c : Nat} {s : Int32} (hc : c < 9) (hP : P c ≤ 2) (hN : N c ≤ 7) {i : Nat} (hi : i < 32) (h : ¬ (tx_wo K P c ≤ i ∧ i < tx_wo K P c + tx_w K c)) : tb_bt (tx_af K P N c s) i = tb_bt s i := by
  unfold tx_af
  unfold tx_wo tx_w at h
  by_cases k0 : K c = 0
  · rw [if_pos k0]
    rw [if_pos k0, if_pos (show K c < 4 by omega)] at h
    exact tb_tpF (by omega) hi (fun j hj => tb_and7 _ hj) h
  · rw [if_neg k0]
    rw [if_neg k0] at h
    by_cases k1 : K c = 1
    · rw [if_pos k1]
      rw [if_pos (show K c < 4 by omega), if_pos (show K c < 4 by omega)] at h
      exact tb_tpF (by omega) hi (fun j hj => tb_n7 hN hj) h
    · rw [if_neg k1]
      by_cases k2 : K c = 2
      · rw [if_pos k2]
        rw [if_pos (show K c < 4 by omega), if_pos (show K c < 4 by omega)] at h
        exact tb_tpF (by omega) hi (fun j hj => tb_and7 _ hj) h
      · rw [if_neg k2]
        by_cases k3 : K c = 3
        · rw [if_pos k3]
          rw [if_pos (show K c < 4 by omega), if_pos (show K c < 4 by omega)] at h
          exact tb_tpF (by omega) hi (fun j hj => tb_and7 _ hj) h
        · rw [if_neg k3]
          rw [if_neg (show ¬ K c < 4 by omega), if_neg (show ¬ K c < 4 by omega)] at h
          by_cases k4 : K c = 4
          · rw [if_pos k4, tb_or, tb_shl _ (by omega) _ hi]
            by_cases g : 18 + 2 * P c ≤ i
            · rw [tb_n3 (by omega) (by omega), Bool.and_false, Bool.or_false]
            · rw [decide_eq_false g, Bool.false_and, Bool.or_false]
          · rw [if_neg k4]
            by_cases hh : tx_tg s (18 + 2 * P c) 3 = nI (c / 3 + 1)
            · rw [if_pos hh, tb_and, tb_xor, tb_shl _ (by omega) _ hi, tb_m1 i hi, tb_3]
              by_cases g : 18 + 2 * P c ≤ i
              · rw [decide_eq_false (show ¬ i - (18 + 2 * P c) < 2 by omega)]
                simp
              · rw [decide_eq_false g]
                simp
            · rw [if_neg hh]
theorem tx_cdp {K P : Nat → Nat} {c : Nat} {s s' : Int32} (hP : P c ≤ 2) (h : ∀ i, i < 32 → tx_ro K P c ≤ i → i < tx_ro K P c + tx_w K c → tb_bt s i = tb_bt s' i) : tx_cd K P c s = tx_cd K P c s' := by
  unfold tx_cd
  unfold tx_ro tx_w at h
  by_cases k4 : K c = 4
  · rw [if_neg (show ¬ K c = 2 by omega), if_neg (show ¬ K c < 4 by omega), if_neg (show ¬ K c < 4 by omega)] at h
    rw [if_pos k4, if_pos k4, tb_tg3 (by omega) h]
  · rw [if_neg k4, if_neg k4]
theorem tx_dep {K P N : Nat → Nat} {c : Nat} {s s' : Int32} (hc : c < 9) (hP : P c ≤ 2) (h : ∀ i, i < 32 → tx_ro K P c ≤ i → i < tx_ro K P c + tx_w K c → tb_bt s i = tb_bt s' i)
    {i : Nat} (hi : i < 32) (h1 : tx_wo K P c ≤ i) (h2 : i < tx_wo K P c + tx_w K c) : tb_bt (tx_af K P N c s) i = tb_bt (tx_af K P N c s') i := by
  unfold tx_af
  unfold tx_wo at h1
  unfold tx_wo tx_w at h2
  unfold tx_ro tx_w at h
  by_cases k0 : K c = 0
  · rw [if_pos k0, if_pos k0]
    rw [if_pos k0] at h1
    rw [if_pos k0, if_pos (show K c < 4 by omega)] at h2
    rw [if_neg (show ¬ K c = 2 by omega), if_pos (show K c < 4 by omega), if_pos (show K c < 4 by omega)] at h
    rw [tb_tpW (by omega) hi h1 h2, tb_tpW (by omega) hi h1 h2, tb_tg7 (by omega) h]
  · rw [if_neg k0, if_neg k0]
    rw [if_neg k0] at h1 h2
    by_cases k4 : K c < 4
    · rw [if_pos k4] at h1
      rw [if_pos k4, if_pos k4] at h2
      by_cases k1 : K c = 1
      · rw [if_pos k1, if_pos k1, tb_tpW (by omega) hi h1 h2, tb_tpW (by omega) hi h1 h2]
      · rw [if_neg k1, if_neg k1]
        by_cases k2 : K c = 2
        · rw [if_pos k2, if_pos k4] at h
          rw [if_pos k2, if_pos k2, tb_tpW (by omega) hi h1 h2, tb_tpW (by omega) hi h1 h2, tb_tg7 (by omega) h]
        · rw [if_neg k2, if_pos k4, if_pos k4] at h
          rw [if_neg k2, if_neg k2, if_pos (show K c = 3 by omega), if_pos (show K c = 3 by omega), tb_tpW (by omega) hi h1 h2, tb_tpW (by omega) hi h1 h2, tb_tg7 (by omega) h]
    · rw [if_neg k4] at h1
      rw [if_neg k4, if_neg k4] at h2
      rw [if_neg (show ¬ K c = 2 by omega), if_neg k4, if_neg k4] at h
      rw [if_neg (show ¬ K c = 1 by omega), if_neg (show ¬ K c = 1 by omega), if_neg (show ¬ K c = 2 by omega), if_neg (show ¬ K c = 2 by omega), if_neg (show ¬ K c = 3 by omega), if_neg (show ¬ K c = 3 by omega)]
      by_cases k5 : K c = 4
      · rw [if_pos k5, if_pos k5, tb_or, tb_or, h i hi h1 h2]
      · rw [if_neg k5, if_neg k5, tb_tg3 (by omega) h]
        by_cases hh : tx_tg s' (18 + 2 * P c) 3 = nI (c / 3 + 1)
        · rw [if_pos hh, if_pos hh, tb_and, tb_and, h i hi h1 h2]
        · rw [if_neg hh, if_neg hh, h i hi h1 h2]
theorem tx_tds (K P : Nat → Nat) (a b : Nat) : tx_td K P a b = tx_td K P b a := by
  unfold tx_td
  apply decide_eq_decide.mpr
  omega
theorem tx_woC (K P : Nat → Nat) (c : Nat) : (tx_wo K P c = 9 + 3 * (c / 3) ∧ K c = 0 ∧ tx_w K c = 3) ∨ (tx_wo K P c = 3 * P c ∧ K c ≠ 0 ∧ K c < 4 ∧ tx_w K c = 3) ∨ (tx_wo K P c = 18 + 2 * P c ∧ 4 ≤ K c ∧ tx_w K c = 2) := by
  unfold tx_wo tx_w
  by_cases h0 : K c = 0
  · rw [if_pos h0, if_pos (show K c < 4 by omega)]
    exact .inl ⟨rfl, h0, rfl⟩
  · rw [if_neg h0]
    by_cases h4 : K c < 4
    · rw [if_pos h4, if_pos h4]
      exact .inr (.inl ⟨rfl, h0, h4, rfl⟩)
    · rw [if_neg h4, if_neg h4]
      exact .inr (.inr ⟨rfl, by omega, rfl⟩)
theorem tx_roC (K P : Nat → Nat) (c : Nat) : (tx_ro K P c = 9 + 3 * (c / 3) ∧ K c = 2 ∧ tx_w K c = 3) ∨ (tx_ro K P c = 3 * P c ∧ K c ≠ 2 ∧ K c < 4 ∧ tx_w K c = 3) ∨ (tx_ro K P c = 18 + 2 * P c ∧ 4 ≤ K c ∧ tx_w K c = 2) := by
  unfold tx_ro tx_w
  by_cases h0 : K c = 2
  · rw [if_pos h0, if_pos (show K c < 4 by omega)]
    exact .inl ⟨rfl, h0, rfl⟩
  · rw [if_neg h0]
    by_cases h4 : K c < 4
    · rw [if_pos h4, if_pos h4]
      exact .inr (.inl ⟨rfl, h0, h4, rfl⟩)
    · rw [if_neg h4, if_neg h4]
      exact .inr (.inr ⟨rfl, by omega, rfl⟩)
theorem tx_dj1 {K P : Nat → Nat} {a b : Nat} (ha : a < 9) (hb : b < 9) (hPa : P a ≤ 2) (hPb : P b ≤ 2) (ht : tx_td K P a b = false) {i : Nat} (h1 : tx_wo K P a ≤ i) (h2 : i < tx_wo K P a + tx_w K a) : ¬ (tx_ro K P b ≤ i ∧ i < tx_ro K P b + tx_w K b) := by
  have h := of_decide_eq_false ht
  rcases tx_woC K P a with g | g | g <;> rcases tx_roC K P b with g' | g' | g' <;> omega
theorem tx_dj2 {K P : Nat → Nat} {a b : Nat} (ha : a < 9) (hb : b < 9) (hPa : P a ≤ 2) (hPb : P b ≤ 2) (ht : tx_td K P a b = false) {i : Nat} (h1 : tx_wo K P a ≤ i) (h2 : i < tx_wo K P a + tx_w K a) : ¬ (tx_wo K P b ≤ i ∧ i < tx_wo K P b + tx_w K b) := by
  have h := of_decide_eq_false ht
  rcases tx_woC K P a with g | g | g <;> rcases tx_woC K P b with g' | g' | g' <;> omega
/-- a step not tied to another doesn't change whether that one can be taken -/
theorem tx_cdc {S K P N : Nat → Nat} (ok : tx_ok S K P N) {a b : Nat} (ha : a < 9) (hb : b < 9) (ht : tx_td K P a b = false) (s : Int32) : tx_cd K P a (tx_af K P N b s) = tx_cd K P a s := by
  have oa := ok.2 a ha
  have ob := ok.2 b hb
  refine tx_cdp oa.2.1 (fun i hi h1 h2 => tx_frame hb ob.2.1 ob.2.2 hi (fun h => ?_))
  exact tx_dj1 hb ha ob.2.1 oa.2.1 (by rw [tx_tds]; exact ht) h.1 h.2 ⟨h1, h2⟩
/-- steps that aren't tied commute -/
theorem tx_comm {S K P N : Nat → Nat} (ok : tx_ok S K P N) {a b : Nat} (ha : a < 9) (hb : b < 9) (ht : tx_td K P a b = false) (s : Int32) : tx_af K P N a (tx_af K P N b s) = tx_af K P N b (tx_af K P N a s) := by
  have oa := ok.2 a ha
  have ob := ok.2 b hb
  have ht' : tx_td K P b a = false := by rw [tx_tds]; exact ht
  have fa : ∀ (x : Int32) {i : Nat}, i < 32 → ¬ (tx_wo K P a ≤ i ∧ i < tx_wo K P a + tx_w K a) → tb_bt (tx_af K P N a x) i = tb_bt x i := fun x _ hi h => tx_frame ha oa.2.1 oa.2.2 hi h
  have fb : ∀ (x : Int32) {i : Nat}, i < 32 → ¬ (tx_wo K P b ≤ i ∧ i < tx_wo K P b + tx_w K b) → tb_bt (tx_af K P N b x) i = tb_bt x i := fun x _ hi h => tx_frame hb ob.2.1 ob.2.2 hi h
  apply tb_ext
  intro i hi
  by_cases ga : tx_wo K P a ≤ i ∧ i < tx_wo K P a + tx_w K a
  · rw [fb _ hi (tx_dj2 ha hb oa.2.1 ob.2.1 ht ga.1 ga.2)]
    exact tx_dep ha oa.2.1 (fun j hj h1 h2 => fb s hj (fun h => tx_dj1 hb ha ob.2.1 oa.2.1 ht' h.1 h.2 ⟨h1, h2⟩)) hi ga.1 ga.2
  · rw [fa _ hi ga]
    by_cases gb : tx_wo K P b ≤ i ∧ i < tx_wo K P b + tx_w K b
    · exact (tx_dep hb ob.2.1 (fun j hj h1 h2 => fa s hj (fun h => tx_dj1 ha hb oa.2.1 ob.2.1 ht h.1 h.2 ⟨h1, h2⟩)) hi gb.1 gb.2).symm
    · rw [fb _ hi gb, fb _ hi gb, fa _ hi ga]
end
section
/-! The search as a list of leaves (depth, order of steps, state), without and with sleep -/
abbrev tx_Lf : Type := Nat × (Nat → Nat) × Int32
def tx_up (e : Nat → Nat) (t : Nat) : Nat → Nat := fun j => if j = t then e j + 1 else e j
def tx_ux (W : Nat → Nat) (d c : Nat) : Nat → Nat := fun j => if j = d then c else W j
def tx_en (S K P : Nat → Nat) (s : Int32) (e : Nat → Nat) (t : Nat) : Bool := decide (e t < S t) && tx_cd K P (3 * t + e t) s
def tx_zs (S K P : Nat → Nat) (Z : Nat → Bool) (e : Nat → Nat) (t : Nat) : Nat → Bool := fun o => Z o && (decide (e o < S o) && !tx_td K P (3 * o + e o) (3 * t + e t))
def tx_zt (q : Bool) (Z : Nat → Bool) (t : Nat) : Nat → Bool := fun o => Z o || (q && decide (o = t))
def tx_end (S K P : Nat → Nat) (s : Int32) (e : Nat → Nat) : Bool := !tx_en S K P s e 0 && (!tx_en S K P s e 1 && !tx_en S K P s e 2)
def tx_tn (S K P N : Nat → Nat) (q : Bool) (R : Int32 → (Nat → Nat) → (Nat → Bool) → Nat → (Nat → Nat) → List tx_Lf) (s : Int32) (e : Nat → Nat) (d : Nat) (W : Nat → Nat) : Nat → (Nat → Bool) → List tx_Lf
  | 0, _ => if tx_end S K P s e = true then [(d, W, s)] else []
  | r + 1, Z => if (tx_en S K P s e (2 - r) && !Z (2 - r)) = true then R (tx_af K P N (3 * (2 - r) + e (2 - r)) s) (tx_up e (2 - r)) (tx_zs S K P Z e (2 - r)) (d + 1) (tx_ux W d (3 * (2 - r) + e (2 - r))) ++ tx_tn S K P N q R s e d W r (tx_zt q Z (2 - r)) else tx_tn S K P N q R s e d W r Z
def tx_lv (S K P N : Nat → Nat) (q : Bool) : Nat → Int32 → (Nat → Nat) → (Nat → Bool) → Nat → (Nat → Nat) → List tx_Lf
  | 0 => fun _ _ _ _ _ => []
  | k + 1 => fun s e Z d W => tx_tn S K P N q (tx_lv S K P N q k) s e d W 3 Z
section
variable {S K P N : Nat → Nat} {q : Bool} {R : Int32 → (Nat → Nat) → (Nat → Bool) → Nat → (Nat → Nat) → List tx_Lf} {s : Int32} {e : Nat → Nat} {d : Nat} {W : Nat → Nat} {Z : Nat → Bool}
theorem tx_tn0 : tx_tn S K P N q R s e d W 0 Z = if tx_end S K P s e = true then [(d, W, s)] else [] := rfl
theorem tx_tnT {r t : Nat} (ht : 2 - r = t) (h1 : tx_en S K P s e t = true) (h2 : Z t = false) : tx_tn S K P N q R s e d W (r + 1) Z = R (tx_af K P N (3 * t + e t) s) (tx_up e t) (tx_zs S K P Z e t) (d + 1) (tx_ux W d (3 * t + e t)) ++ tx_tn S K P N q R s e d W r (tx_zt q Z t) := by
  subst ht
  exact if_pos (by rw [h1, h2]; rfl)
theorem tx_tnF {r t : Nat} (ht : 2 - r = t) (h1 : tx_en S K P s e t = false ∨ Z t = true) : tx_tn S K P N q R s e d W (r + 1) Z = tx_tn S K P N q R s e d W r Z := by
  subst ht
  refine if_neg ?_
  rcases h1 with h | h
  · rw [h]; simp
  · rw [h]; simp
theorem tx_zs0 {t : Nat} (h : ∀ o, Z o = false) : ∀ o, tx_zs S K P Z e t o = false := by
  intro o
  unfold tx_zs
  rw [h o, Bool.false_and]
theorem tx_zt0 {t : Nat} (h : ∀ o, Z o = false) : ∀ o, tx_zt false Z t o = false := by
  intro o
  unfold tx_zt
  rw [h o, Bool.false_and, Bool.or_false]
theorem tx_up_s (e : Nat → Nat) (t : Nat) : tx_up e t t = e t + 1 := if_pos rfl
theorem tx_up_n {e : Nat → Nat} {t j : Nat} (h : j ≠ t) : tx_up e t j = e j := if_neg h
theorem tx_en_lt {t : Nat} (h : tx_en S K P s e t = true) : e t < S t := by
  unfold tx_en at h
  rw [Bool.and_eq_true] at h
  exact of_decide_eq_true h.1
theorem tx_en_cd {t : Nat} (h : tx_en S K P s e t = true) : tx_cd K P (3 * t + e t) s = true := by
  unfold tx_en at h
  rw [Bool.and_eq_true] at h
  exact h.2
theorem tx_en_mk {t : Nat} (h : e t < S t) (h2 : tx_cd K P (3 * t + e t) s = true) : tx_en S K P s e t = true := by
  unfold tx_en
  rw [decide_eq_true h, h2]
  rfl
theorem tx_upsum {t : Nat} (ht : t < 3) : tx_up e t 0 + tx_up e t 1 + tx_up e t 2 = e 0 + e 1 + e 2 + 1 := by
  unfold tx_up
  rcases (show t = 0 ∨ t = 1 ∨ t = 2 by omega) with rfl | rfl | rfl <;> simp <;> omega
theorem tx_uple {t : Nat} (h : e t < S t) (h2 : ∀ j, j < 3 → e j ≤ S j) : ∀ j, j < 3 → tx_up e t j ≤ S j := by
  intro j hj
  by_cases g : j = t
  · rw [g, tx_up_s]; omega
  · rw [tx_up_n g]; exact h2 j hj
/-- what a leaf of the turns is: the node's own, or one of a child's -/
theorem tx_memI {l : tx_Lf} : ∀ r Z, l ∈ tx_tn S K P N q R s e d W r Z → r ≤ 3 → (tx_end S K P s e = true ∧ l = (d, W, s)) ∨ ∃ p, p < 3 ∧ tx_en S K P s e p = true ∧ ∃ Zp, l ∈ R (tx_af K P N (3 * p + e p) s) (tx_up e p) Zp (d + 1) (tx_ux W d (3 * p + e p)) := by
  intro r
  induction r with
  | zero =>
    intro Z h _
    rw [tx_tn0] at h
    by_cases g : tx_end S K P s e = true
    · rw [if_pos g, List.mem_singleton] at h
      exact .inl ⟨g, h⟩
    · rw [if_neg g] at h
      exact absurd h List.not_mem_nil
  | succ r ih =>
    intro Z h hr
    by_cases g : tx_en S K P s e (2 - r) = true ∧ Z (2 - r) = false
    · rw [tx_tnT rfl g.1 g.2, List.mem_append] at h
      rcases h with h | h
      · exact .inr ⟨2 - r, by omega, g.1, _, h⟩
      · exact ih _ h (by omega)
    · rw [tx_tnF rfl (by
        rcases hb : tx_en S K P s e (2 - r) with _ | _
        · exact .inl rfl
        · rcases hz : Z (2 - r) with _ | _
          · exact absurd ⟨hb, hz⟩ g
          · exact .inr rfl)] at h
      exact ih _ h (by omega)
/-- an awake thread that can go is tried, with those asleep that were, or that came earlier -/
theorem tx_memT {p : Nat} (hp : p < 3) (he : tx_en S K P s e p = true) : ∀ r Z, r ≤ 3 → 3 ≤ p + r → Z p = false → ∃ Zp : Nat → Bool, Zp p = false ∧ (∀ z, Zp z = true → Z z = true ∨ z < p) ∧ ∀ l, l ∈ R (tx_af K P N (3 * p + e p) s) (tx_up e p) (tx_zs S K P Zp e p) (d + 1) (tx_ux W d (3 * p + e p)) → l ∈ tx_tn S K P N q R s e d W r Z := by
  intro r
  induction r with
  | zero => intro Z _ h; exact absurd h (by omega)
  | succ r ih =>
    intro Z hr h hz
    by_cases g : 2 - r = p
    · refine ⟨Z, hz, fun z h => .inl h, fun l hl => ?_⟩
      rw [tx_tnT g he hz]
      exact List.mem_append_left _ hl
    · by_cases g2 : tx_en S K P s e (2 - r) = true ∧ Z (2 - r) = false
      · obtain ⟨Zp, h1, h2, h3⟩ := ih (tx_zt q Z (2 - r)) (by omega) (by omega) (by
          unfold tx_zt
          rw [hz, decide_eq_false (fun h => g h.symm), Bool.and_false]
          rfl)
        refine ⟨Zp, h1, fun z hz' => ?_, fun l hl => ?_⟩
        · rcases h2 z hz' with h4 | h4
          · unfold tx_zt at h4
            rw [Bool.or_eq_true, Bool.and_eq_true] at h4
            rcases h4 with h4 | h4
            · exact .inl h4
            · have := of_decide_eq_true h4.2
              exact .inr (by omega)
          · exact .inr h4
        · rw [tx_tnT rfl g2.1 g2.2]
          exact List.mem_append_right _ (h3 l hl)
      · obtain ⟨Zp, h1, h2, h3⟩ := ih Z (by omega) (by omega) hz
        refine ⟨Zp, h1, h2, fun l hl => ?_⟩
        rw [tx_tnF rfl (by
          rcases hb : tx_en S K P s e (2 - r) with _ | _
          · exact .inl rfl
          · rcases hz : Z (2 - r) with _ | _
            · exact absurd ⟨hb, hz⟩ g2
            · exact .inr rfl)]
        exact h3 l hl
end
/-- the search with sleep finds a part of what the search without finds -/
theorem tx_sub {S K P N : Nat → Nat} : ∀ k s e Z Z' d W, (∀ o, Z' o = false) → (tx_lv S K P N true k s e Z d W).Sublist (tx_lv S K P N false k s e Z' d W) := by
  intro k
  induction k with
  | zero => intro s e Z Z' d W _; exact List.Sublist.refl _
  | succ k ih =>
    intro s e Z Z' d W h
    have T : ∀ r Z Z', (∀ o, Z' o = false) → (tx_tn S K P N true (tx_lv S K P N true k) s e d W r Z).Sublist (tx_tn S K P N false (tx_lv S K P N false k) s e d W r Z') := by
      intro r
      induction r with
      | zero => intro Z Z' _; exact List.Sublist.refl _
      | succ r ihr =>
        intro Z Z' h
        rcases hb : tx_en S K P s e (2 - r) with _ | _
        · rw [tx_tnF rfl (.inl hb), tx_tnF rfl (.inl hb)]
          exact ihr _ _ h
        · rw [tx_tnT (Z := Z') rfl hb (h _)]
          rcases hz : Z (2 - r) with _ | _
          · rw [tx_tnT rfl hb hz]
            exact List.Sublist.append (ih _ _ _ _ _ _ (tx_zs0 h)) (ihr _ _ (tx_zt0 h))
          · rw [tx_tnF rfl (.inr hz)]
            exact List.Sublist.trans (ihr _ _ (tx_zt0 h)) (List.sublist_append_right _ _)
    exact T 3 Z Z' h
/-- some run goes to its end -/
theorem tx_ne {S K P N : Nat → Nat} {q : Bool} : ∀ k s e Z d W, (∀ o, Z o = false) → (∀ t, t < 3 → e t ≤ S t) → S 0 + S 1 + S 2 < k + (e 0 + e 1 + e 2) → 1 ≤ (tx_lv S K P N q k s e Z d W).length := by
  intro k
  induction k with
  | zero =>
    intro s e Z d W _ h1 h2
    have := h1 0 (by omega)
    have := h1 1 (by omega)
    have := h1 2 (by omega)
    omega
  | succ k ih =>
    intro s e Z d W hz h1 h2
    have C : ∀ t, t < 3 → tx_en S K P s e t = true → 1 ≤ (tx_lv S K P N q k (tx_af K P N (3 * t + e t) s) (tx_up e t) (tx_zs S K P Z e t) (d + 1) (tx_ux W d (3 * t + e t))).length := by
      intro t ht he
      refine ih _ _ _ _ _ (tx_zs0 hz) (tx_uple (tx_en_lt he) h1) ?_
      rw [tx_upsum ht]
      omega
    show 1 ≤ (tx_tn S K P N q (tx_lv S K P N q k) s e d W 3 Z).length
    rcases h0 : tx_en S K P s e 0 with _ | _
    · rw [tx_tnF (t := 0) rfl (.inl h0)]
      rcases h1 : tx_en S K P s e 1 with _ | _
      · rw [tx_tnF (t := 1) rfl (.inl h1)]
        rcases h2 : tx_en S K P s e 2 with _ | _
        · rw [tx_tnF (t := 2) rfl (.inl h2), tx_tn0, if_pos (by unfold tx_end; rw [h0, h1, h2]; rfl)]
          exact Nat.le_refl 1
        · rw [tx_tnT (t := 2) rfl h2 (hz 2), List.length_append]
          exact Nat.le_trans (C 2 (by omega) h2) (Nat.le_add_right _ _)
      · rw [tx_tnT (t := 1) rfl h1 (hz 1), List.length_append]
        exact Nat.le_trans (C 1 (by omega) h1) (Nat.le_add_right _ _)
    · rw [tx_tnT (t := 0) rfl h0 (hz 0), List.length_append]
      exact Nat.le_trans (C 0 (by omega) h0) (Nat.le_add_right _ _)
/-- how many turns of its loop the search takes at most for a node with a, b, c steps left -/
def tx_cb : Nat → Nat → Nat → Nat → Nat
  | 0, _, _, _ => 0
  | k + 1, a, b, c => 4 + (if a = 0 then 0 else tx_cb k (a - 1) b c) + (if b = 0 then 0 else tx_cb k a (b - 1) c) + (if c = 0 then 0 else tx_cb k a b (c - 1))
theorem tx_cbT : ∀ a, a < 4 → ∀ b, b < 4 → ∀ c, c < 4 → tx_cb 10 a b c < 99999 := by decide +kernel
def tx_ce (S : Nat → Nat) (k : Nat) (e : Nat → Nat) : Nat := tx_cb k (S 0 - e 0) (S 1 - e 1) (S 2 - e 2)
/-- the turns for a child, 0 if the thread has no step left -/
def tx_ct (S : Nat → Nat) (k : Nat) (e : Nat → Nat) (t : Nat) : Nat := if S t - e t = 0 then 0 else tx_ce S k (tx_up e t)
theorem tx_ceS (S : Nat → Nat) (k : Nat) (e : Nat → Nat) : tx_ce S (k + 1) e = 4 + tx_ct S k e 0 + tx_ct S k e 1 + tx_ct S k e 2 := by
  have h0 : tx_ct S k e 0 = if S 0 - e 0 = 0 then 0 else tx_cb k (S 0 - e 0 - 1) (S 1 - e 1) (S 2 - e 2) := by
    unfold tx_ct tx_ce
    rw [tx_up_s, tx_up_n (show 1 ≠ 0 by omega), tx_up_n (show 2 ≠ 0 by omega)]
    rfl
  have h1 : tx_ct S k e 1 = if S 1 - e 1 = 0 then 0 else tx_cb k (S 0 - e 0) (S 1 - e 1 - 1) (S 2 - e 2) := by
    unfold tx_ct tx_ce
    rw [tx_up_s, tx_up_n (show 0 ≠ 1 by omega), tx_up_n (show 2 ≠ 1 by omega)]
    rfl
  have h2 : tx_ct S k e 2 = if S 2 - e 2 = 0 then 0 else tx_cb k (S 0 - e 0) (S 1 - e 1) (S 2 - e 2 - 1) := by
    unfold tx_ct tx_ce
    rw [tx_up_s, tx_up_n (show 0 ≠ 2 by omega), tx_up_n (show 1 ≠ 2 by omega)]
    rfl
  rw [h0, h1, h2]
  rfl
theorem tx_ctE {S : Nat → Nat} {k : Nat} {e : Nat → Nat} {t : Nat} (h : e t < S t) : tx_ct S k e t = tx_ce S k (tx_up e t) := if_neg (by omega)
theorem tx_len {S K P N : Nat → Nat} {q : Bool} : ∀ k s e Z d W, (tx_lv S K P N q k s e Z d W).length ≤ tx_ce S k e := by
  intro k
  induction k with
  | zero => intro s e Z d W; exact Nat.zero_le _
  | succ k ih =>
    intro s e Z d W
    have T0 : ∀ Z, (tx_tn S K P N q (tx_lv S K P N q k) s e d W 0 Z).length ≤ 1 := by
      intro Z
      rw [tx_tn0]
      by_cases g : tx_end S K P s e = true
      · rw [if_pos g]; exact Nat.le_refl 1
      · rw [if_neg g]; exact Nat.zero_le 1
    have T : ∀ r t m Z, 2 - r = t → (∀ Z, (tx_tn S K P N q (tx_lv S K P N q k) s e d W r Z).length ≤ m) → (tx_tn S K P N q (tx_lv S K P N q k) s e d W (r + 1) Z).length ≤ tx_ct S k e t + m := by
      intro r t m Z ht hm
      by_cases g : tx_en S K P s e t = true ∧ Z t = false
      · rw [tx_tnT ht g.1 g.2, List.length_append, tx_ctE (tx_en_lt g.1)]
        exact Nat.add_le_add (ih _ _ _ _ _) (hm _)
      · rw [tx_tnF ht (by
          rcases hb : tx_en S K P s e t with _ | _
          · exact .inl rfl
          · rcases hz : Z t with _ | _
            · exact absurd ⟨hb, hz⟩ g
            · exact .inr rfl)]
        exact Nat.le_trans (hm _) (Nat.le_add_left _ _)
    have h := T 2 0 _ Z rfl (fun Z => T 1 1 _ Z rfl (fun Z => T 0 2 _ Z rfl T0))
    rw [tx_ceS]
    show (tx_tn S K P N q (tx_lv S K P N q k) s e d W 3 Z).length ≤ _
    have h' : (tx_tn S K P N q (tx_lv S K P N q k) s e d W 3 Z).length ≤ tx_ct S k e 0 + (tx_ct S k e 1 + (tx_ct S k e 2 + 1)) := h
    omega
end
section
/-! The sleep-set theorem: where some run is complete, the search with sleep finds a complete one -/
def tx_cp (S K P N : Nat → Nat) : List Nat → Int32 → (Nat → Nat) → Prop
  | [], _, e => ∀ t, t < 3 → e t = S t
  | p :: w, s, e => p < 3 ∧ tx_en S K P s e p = true ∧ tx_cp S K P N w (tx_af K P N (3 * p + e p) s) (tx_up e p)
/-- thread z could be taken first in w -/
def tx_in (K P : Nat → Nat) (z : Nat) : List Nat → (Nat → Nat) → Prop
  | [], _ => False
  | p :: w, e => p = z ∨ (p ≠ z ∧ tx_td K P (3 * z + e z) (3 * p + e p) = false ∧ tx_in K P z w (tx_up e p))
theorem tx_upc (e : Nat → Nat) (a b : Nat) : tx_up (tx_up e a) b = tx_up (tx_up e b) a := by
  funext j
  unfold tx_up
  by_cases h1 : j = a
  · by_cases h2 : j = b
    · rw [if_pos h2, if_pos h1, if_pos h1, if_pos h2]
    · rw [if_neg h2, if_pos h1, if_pos h1, if_neg h2]
  · by_cases h2 : j = b
    · rw [if_pos h2, if_neg h1, if_neg h1, if_pos h2]
    · rw [if_neg h2, if_neg h1, if_neg h1, if_neg h2]
theorem tx_pull {S K P N : Nat → Nat} (ok : tx_ok S K P N) {z : Nat} (hz : z < 3) : ∀ w s e, tx_cp S K P N w s e → tx_in K P z w e → ∃ w', w'.length + 1 = w.length ∧ tx_cp S K P N (z :: w') s e := by
  intro w
  induction w with
  | nil => intro s e _ h; exact False.elim h
  | cons p w ih =>
    intro s e hc hi
    rcases hi with h | ⟨hne, ht, hi⟩
    · subst h
      exact ⟨w, rfl, hc⟩
    · obtain ⟨hp, hen, hc⟩ := hc
      obtain ⟨w', hl, hz3, hez, hc'⟩ := ih _ _ hc hi
      have e1 : tx_up e p z = e z := tx_up_n (fun h => hne h.symm)
      have e2 : tx_up e z p = e p := tx_up_n hne
      have l1 := tx_en_lt hez
      have l2 := tx_en_lt hen
      have c1 := tx_en_cd hez
      have c2 := tx_en_cd hen
      rw [e1] at l1 c1 hc'
      have s1 := ok.1 z hz
      have s2 := ok.1 p hp
      have ha : 3 * z + e z < 9 := by omega
      have hb : 3 * p + e p < 9 := by omega
      rw [tx_cdc ok ha hb ht] at c1
      refine ⟨p :: w', by rw [List.length_cons, List.length_cons, hl], hz, tx_en_mk l1 c1, hp, ?_, ?_⟩
      · refine tx_en_mk (by rw [e2]; exact l2) ?_
        rw [e2, tx_cdc ok hb ha (by rw [tx_tds]; exact ht)]
        exact c2
      · rw [e2, ← tx_comm ok ha hb ht, tx_upc]
        exact hc'
theorem tx_cplen {S K P N : Nat → Nat} : ∀ w s e, tx_cp S K P N w s e → w.length + (e 0 + e 1 + e 2) = S 0 + S 1 + S 2 := by
  intro w
  induction w with
  | nil =>
    intro s e h
    have h0 := h 0 (by omega)
    have h1 := h 1 (by omega)
    have h2 := h 2 (by omega)
    rw [h0, h1, h2]
    exact Nat.zero_add _
  | cons p w ih =>
    intro s e h
    have := ih _ _ h.2.2
    rw [tx_upsum h.1] at this
    rw [List.length_cons]
    omega
def tx_val : List Nat → Nat
  | [] => 0
  | p :: w => p * 3 ^ w.length + tx_val w
theorem tx_valt {S K P N : Nat → Nat} : ∀ w s e, tx_cp S K P N w s e → tx_val w < 3 ^ w.length := by
  intro w
  induction w with
  | nil => intro s e _; exact Nat.one_pos
  | cons p w ih =>
    intro s e h
    have h1 := ih _ _ h.2.2
    have h2 : p * 3 ^ w.length ≤ 2 * 3 ^ w.length := Nat.mul_le_mul_right _ (by have := h.1; omega)
    show p * 3 ^ w.length + tx_val w < 3 ^ (w.length + 1)
    rw [Nat.pow_succ]
    omega
theorem tx_slp {S K P N : Nat → Nat} (ok : tx_ok S K P N) : ∀ k w s e Z d W, tx_cp S K P N w s e → (∀ w', tx_cp S K P N w' s e → tx_val w ≤ tx_val w') → (∀ z, z < 3 → Z z = true → ¬ tx_in K P z w e) → w.length < k → ∃ l, l ∈ tx_lv S K P N true k s e Z d W ∧ l.1 = d + w.length := by
  intro k
  induction k with
  | zero => intro w s e Z d W _ _ _ h; exact absurd h (by omega)
  | succ k ih =>
    intro w s e Z d W hc hm hs hk
    show ∃ l, l ∈ tx_tn S K P N true (tx_lv S K P N true k) s e d W 3 Z ∧ l.1 = d + w.length
    cases w with
    | nil =>
      have E : ∀ t, t < 3 → tx_en S K P s e t = false := by
        intro t ht
        have := hc t ht
        unfold tx_en
        rw [decide_eq_false (by omega), Bool.false_and]
      refine ⟨(d, W, s), ?_, rfl⟩
      rw [tx_tnF (t := 0) rfl (.inl (E 0 (by omega))), tx_tnF (t := 1) rfl (.inl (E 1 (by omega))), tx_tnF (t := 2) rfl (.inl (E 2 (by omega))), tx_tn0, if_pos (by unfold tx_end; rw [E 0 (by omega), E 1 (by omega), E 2 (by omega)]; rfl)]
      exact List.mem_singleton.mpr rfl
    | cons p w =>
      obtain ⟨hp, he, hc1⟩ := hc
      have hzp : Z p = false := by
        rcases hz : Z p with _ | _
        · rfl
        · exact absurd (show tx_in K P p (p :: w) e from .inl rfl) (hs p hp hz)
      obtain ⟨Zp, z1, z2, z3⟩ := tx_memT (N := N) (q := true) (R := tx_lv S K P N true k) (d := d) (W := W) hp he 3 Z (Nat.le_refl 3) (by omega) hzp
      obtain ⟨l, l1, l2⟩ := ih w _ _ (tx_zs S K P Zp e p) (d + 1) (tx_ux W d (3 * p + e p)) hc1 (by
        intro w' hc'
        have hl1 := tx_cplen _ _ _ hc1
        have hl2 := tx_cplen _ _ _ hc'
        have h := hm (p :: w') ⟨hp, he, hc'⟩
        have hl : w'.length = w.length := by omega
        have h' : p * 3 ^ w.length + tx_val w ≤ p * 3 ^ w'.length + tx_val w' := h
        rw [hl] at h'
        omega) (by
        intro z hz hzs hin
        unfold tx_zs at hzs
        rw [Bool.and_eq_true, Bool.and_eq_true] at hzs
        obtain ⟨g1, g2, g3⟩ := hzs
        have hne : p ≠ z := by
          intro h
          rw [← h, z1] at g1
          exact absurd g1 (by decide)
        have hI : tx_in K P z (p :: w) e := .inr ⟨hne, by
          rcases ht : tx_td K P (3 * z + e z) (3 * p + e p) with _ | _
          · rfl
          · rw [ht] at g3
            exact absurd g3 (by decide), hin⟩
        rcases z2 z g1 with h | h
        · exact hs z hz h hI
        · have hcp : tx_cp S K P N (p :: w) s e := ⟨hp, he, hc1⟩
          obtain ⟨w', hl, hc'⟩ := tx_pull ok hz (p :: w) s e hcp hI
          have hmm := hm (z :: w') hc'
          have hv := tx_valt _ _ _ hc'.2.2
          have hl' : w'.length = w.length := by
            rw [List.length_cons] at hl
            omega
          have h' : p * 3 ^ w.length + tx_val w ≤ z * 3 ^ w'.length + tx_val w' := hmm
          rw [hl'] at h' hv
          have h2 : (z + 1) * 3 ^ w.length ≤ p * 3 ^ w.length := Nat.mul_le_mul_right _ h
          rw [Nat.add_mul, Nat.one_mul] at h2
          omega) (by
        rw [List.length_cons] at hk
        omega)
      exact ⟨l, z3 l l1, by rw [l2, List.length_cons]; omega⟩
/-- a complete leaf comes of a complete run -/
theorem tx_lfcp {S K P N : Nat → Nat} {q : Bool} {l : tx_Lf} : ∀ k s e Z d W, l ∈ tx_lv S K P N q k s e Z d W → d = e 0 + e 1 + e 2 → (∀ t, t < 3 → e t ≤ S t) → l.1 = S 0 + S 1 + S 2 → ∃ w, tx_cp S K P N w s e := by
  intro k
  induction k with
  | zero => intro s e Z d W h; exact absurd h List.not_mem_nil
  | succ k ih =>
    intro s e Z d W h hd he hl
    rcases tx_memI (q := q) (R := tx_lv S K P N q k) 3 Z h (Nat.le_refl 3) with ⟨_, h⟩ | ⟨p, hp, hen, Zp, h⟩
    · refine ⟨[], fun t ht => ?_⟩
      rw [h] at hl
      have hl' : d = S 0 + S 1 + S 2 := hl
      have h0 := he 0 (by omega)
      have h1 := he 1 (by omega)
      have h2 := he 2 (by omega)
      rcases (show t = 0 ∨ t = 1 ∨ t = 2 by omega) with rfl | rfl | rfl <;> omega
    · obtain ⟨w, hw⟩ := ih _ _ _ _ _ h (by rw [tx_upsum hp]; omega) (tx_uple (tx_en_lt hen) he) hl
      exact ⟨p :: w, hp, hen, hw⟩
/-- both searches find a complete run, or neither does -/
theorem tx_both {S K P N : Nat → Nat} (ok : tx_ok S K P N) {k : Nat} {s : Int32} {W W' : Nat → Nat} (hk : S 0 + S 1 + S 2 < k) {l : tx_Lf} (h : l ∈ tx_lv S K P N false k s (fun _ => 0) (fun _ => false) 0 W) (hl : l.1 = S 0 + S 1 + S 2) : ∃ l', l' ∈ tx_lv S K P N true k s (fun _ => 0) (fun _ => false) 0 W' ∧ l'.1 = S 0 + S 1 + S 2 := by
  obtain ⟨w, hw⟩ := tx_lfcp k s _ _ 0 W h rfl (fun t _ => Nat.zero_le _) hl
  obtain ⟨v, ⟨w1, h1, h1v⟩, h2⟩ := pk_least (fun v => ∃ w, tx_cp S K P N w s (fun _ => 0) ∧ tx_val w = v) ⟨_, w, hw, rfl⟩
  have hlen := tx_cplen _ _ _ h1
  have hlen' : w1.length + 0 = S 0 + S 1 + S 2 := hlen
  obtain ⟨l', m1, m2⟩ := tx_slp ok k w1 s (fun _ => 0) (fun _ => false) 0 W' h1 (by
    intro w' hw'
    rcases Nat.lt_or_ge (tx_val w') (tx_val w1) with g | g
    · exact absurd ⟨w', hw', rfl⟩ (h2 _ (by omega))
    · exact g) (fun z _ h => absurd h (by decide)) (by omega)
  exact ⟨l', m1, by omega⟩
/-- where the code's loop over the order finds step a: the last place below k, else x -/
def tx_ix (W : Nat → Nat) (a : Int32) (x : Nat) : Nat → Nat
  | 0 => x
  | k + 1 => if nI (W k) = a then k else tx_ix W a x k
theorem tx_ixc {W W' : Nat → Nat} {a : Int32} {x : Nat} : ∀ k, (∀ j, j < k → W' j = W j) → tx_ix W' a x k = tx_ix W a x k := by
  intro k
  induction k with
  | zero => intro _; rfl
  | succ k ih =>
    intro h
    show (if nI (W' k) = a then k else tx_ix W' a x k) = if nI (W k) = a then k else tx_ix W a x k
    rw [h k (by omega), ih (fun j hj => h j (by omega))]
def tx_od (e : Nat → Nat) (d : Nat) (W : Nat → Nat) : Prop := ∀ t, t < 3 → ∀ j, j < e t → (∀ x, tx_ix W (nI (3 * t + j)) x d < d) ∧ ∀ i, i < j → ∀ x y, tx_ix W (nI (3 * t + i)) x d < tx_ix W (nI (3 * t + j)) y d
theorem tx_od0 {W : Nat → Nat} : tx_od (fun _ => 0) 0 W := fun _ _ _ h => absurd h (Nat.not_lt_zero _)
theorem tx_ods {e : Nat → Nat} {d : Nat} {W : Nat → Nat} {p : Nat} (hp : p < 3) (he : ∀ t, t < 3 → e t ≤ 3) (hep : e p < 3) (h : tx_od e d W) : tx_od (tx_up e p) (d + 1) (tx_ux W d (3 * p + e p)) := by
  have E : ∀ a x, tx_ix (tx_ux W d (3 * p + e p)) a x (d + 1) = if nI (3 * p + e p) = a then d else tx_ix W a x d := by
    intro a x
    show (if nI (tx_ux W d (3 * p + e p) d) = a then d else tx_ix (tx_ux W d (3 * p + e p)) a x d) = _
    rw [tx_ixc (W := W) (W' := tx_ux W d (3 * p + e p)) d (fun j hj => if_neg (by omega)), show tx_ux W d (3 * p + e p) d = 3 * p + e p from if_pos rfl]
  have F : ∀ t, t < 3 → ∀ j, j < e t → ∀ x, tx_ix (tx_ux W d (3 * p + e p)) (nI (3 * t + j)) x (d + 1) = tx_ix W (nI (3 * t + j)) x d := by
    intro t ht j hj x
    rw [E, if_neg]
    intro g
    have h3 := he t ht
    have g' := (nI_eq (by omega) (by omega)).mp g
    have : t = p := by omega
    subst this
    omega
  have G : ∀ x, tx_ix (tx_ux W d (3 * p + e p)) (nI (3 * p + e p)) x (d + 1) = d := by
    intro x
    rw [E, if_pos rfl]
  intro t ht j hj
  by_cases g : j < e t
  · have := h t ht j g
    refine ⟨fun x => ?_, fun i hi x y => ?_⟩
    · rw [F t ht j g]
      exact Nat.lt_succ_of_lt (this.1 x)
    · rw [F t ht j g, F t ht i (by omega)]
      exact this.2 i hi x y
  · have htp : t = p := by
      by_cases g2 : t = p
      · exact g2
      · rw [tx_up_n g2] at hj
        exact absurd hj g
    subst htp
    rw [tx_up_s] at hj
    have hj' : j = e t := by omega
    subst hj'
    refine ⟨fun x => ?_, fun i hi x y => ?_⟩
    · rw [G]; exact Nat.lt_succ_self d
    · rw [G, F t ht i hi]
      exact (h t ht i hi).1 x
/-- in a complete leaf the steps of one thread stand in their order -/
theorem tx_lfod {S K P N : Nat → Nat} (ok : tx_ok S K P N) {q : Bool} {l : tx_Lf} : ∀ k s e Z d W, l ∈ tx_lv S K P N q k s e Z d W → d = e 0 + e 1 + e 2 → (∀ t, t < 3 → e t ≤ S t) → tx_od e d W → l.1 = S 0 + S 1 + S 2 → tx_od S l.1 l.2.1 := by
  intro k
  induction k with
  | zero => intro s e Z d W h; exact absurd h List.not_mem_nil
  | succ k ih =>
    intro s e Z d W h hd he ho hl
    rcases tx_memI (q := q) (R := tx_lv S K P N q k) 3 Z h (Nat.le_refl 3) with ⟨_, h⟩ | ⟨p, hp, hen, Zp, h⟩
    · rw [h] at hl ⊢
      have hl' : d = S 0 + S 1 + S 2 := hl
      have h0 := he 0 (by omega)
      have h1 := he 1 (by omega)
      have h2 := he 2 (by omega)
      intro t ht j hj
      refine ho t ht j ?_
      rcases (show t = 0 ∨ t = 1 ∨ t = 2 by omega) with rfl | rfl | rfl <;> omega
    · have hlt := tx_en_lt hen
      have hS := ok.1 p hp
      exact ih _ _ _ _ _ h (by rw [tx_upsum hp]; omega) (tx_uple hlt he) (tx_ods hp (fun t ht => Nat.le_trans (he t ht) (ok.1 t ht)) (by omega) ho) hl
end
section
/-! The walk: nextOf, canDo, after, areTied, isEnd -/
def ty_cf (S K P N : Nat → Nat) (a1 a2 a3 a4 : Nat → Int32) : Prop := tx_ok S K P N ∧ (∀ t, t < 3 → a1 t = nI (S t)) ∧ (∀ c, c < 9 → a2 c = nI (K c) ∧ a3 c = nI (P c) ∧ a4 c = nI (N c))
def ty_ee (e : Nat → Nat) : Int32 := nI (e 0 + 4 * e 1 + 16 * e 2)
theorem ty_eeT : ∀ a, a < 4 → ∀ b, b < 4 → ∀ c, c < 4 → ((nI (a + 4 * b + 16 * c) >>> ((2 * nI 0) &&& 31)) &&& 3) = nI a ∧ ((nI (a + 4 * b + 16 * c) >>> ((2 * nI 1) &&& 31)) &&& 3) = nI b ∧ ((nI (a + 4 * b + 16 * c) >>> ((2 * nI 2) &&& 31)) &&& 3) = nI c := by decide +kernel
theorem ty_eeG {e : Nat → Nat} (he : ∀ t, t < 3 → e t ≤ 3) {t : Nat} (ht : t < 3) : ((ty_ee e >>> ((2 * nI t) &&& 31)) &&& 3) = nI (e t) := by
  have h0 := he 0 (by omega)
  have h1 := he 1 (by omega)
  have h2 := he 2 (by omega)
  have h := ty_eeT (e 0) (by omega) (e 1) (by omega) (e 2) (by omega)
  rcases (show t = 0 ∨ t = 1 ∨ t = 2 by omega) with rfl | rfl | rfl
  · exact h.1
  · exact h.2.1
  · exact h.2.2
theorem ty_eeU {e : Nat → Nat} {t : Nat} (ht : t < 3) : ty_ee e + ((1 : Int32) <<< ((2 * nI t) &&& 31)) = ty_ee (tx_up e t) := by
  unfold ty_ee tx_up
  rcases (show t = 0 ∨ t = 1 ∨ t = 2 by omega) with rfl | rfl | rfl
  · rw [show ((1 : Int32) <<< ((2 * nI 0) &&& 31)) = nI 1 by decide, nI_add]
    refine congrArg nI ?_
    show e 0 + 4 * e 1 + 16 * e 2 + 1 = (e 0 + 1) + 4 * e 1 + 16 * e 2
    omega
  · rw [show ((1 : Int32) <<< ((2 * nI 1) &&& 31)) = nI 4 by decide, nI_add]
    refine congrArg nI ?_
    show e 0 + 4 * e 1 + 16 * e 2 + 4 = e 0 + 4 * (e 1 + 1) + 16 * e 2
    omega
  · rw [show ((1 : Int32) <<< ((2 * nI 2) &&& 31)) = nI 16 by decide, nI_add]
    refine congrArg nI ?_
    show e 0 + 4 * e 1 + 16 * e 2 + 16 = e 0 + 4 * e 1 + 16 * (e 2 + 1)
    omega
theorem ty_3m (t k : Nat) : (3 : Int32) * nI t + nI k = nI (3 * t + k) := by
  rw [show (3 : Int32) = nI 3 from rfl, pk_mul, nI_add]
theorem ty_3p (t : Nat) : (3 : Int32) * nI t = nI (3 * t) := by
  rw [show (3 : Int32) = nI 3 from rfl, pk_mul]
theorem ty_9 (t : Nat) : (9 : Int32) + 3 * nI t = nI (9 + 3 * t) := by
  rw [show (3 : Int32) = nI 3 from rfl, pk_mul, show (9 : Int32) = nI 9 from rfl, nI_add]
theorem ty_18 (t : Nat) : (18 : Int32) + 2 * nI t = nI (18 + 2 * t) := by
  rw [show (2 : Int32) = nI 2 from rfl, pk_mul, show (18 : Int32) = nI 18 from rfl, nI_add]
theorem ty_d3 {c : Nat} (hc : c < 2 ^ 31) : nI c / 3 = nI (c / 3) := pk_div hc (by decide) (by decide)
section
variable {S K P N : Nat → Nat} {g1 g2 g3 g4 g5 g6 g7 : Int32} {a1 a2 a3 a4 a5 a6 a7 a8 a9 a10 a11 a12 a13 : Nat → Int32}
theorem ty_next {post : Int32 → Prop} (hc : ty_cf S K P N a1 a2 a3 a4) {e : Nat → Nat} (he : ∀ t, t < 3 → e t ≤ 3) {t : Nat} (ht : t < 3)
    (h1 : e t < S t → post (nI (3 * t + e t))) (h2 : S t ≤ e t → post (-1)) : wpX_nextOf post (g1, g2, g3, g4, g5, g6, g7, a1, a2, a3, a4, a5, a6, a7, a8, a9, a10, a11, a12, a13) (nI t) (ty_ee e) := by
  unfold wpX_nextOf
  dsimp only
  have hS := hc.1.1 t ht
  have h3 := he t ht
  refine nm_r (ty_eeG he ht) ⟨pk_in t 3 ht, ?_⟩
  rw [nI_clamp (show t < 2 ^ 31 by omega), hc.2.1 t ht]
  refine pk_le (S t) (e t) h2 (fun h => ?_)
  rw [ty_3m]
  exact h1 h
theorem ty_can {post : Int32 → Prop} (hc : ty_cf S K P N a1 a2 a3 a4) {c : Nat} (h9 : c < 9) {s : Int32}
    (h1 : tx_cd K P c s = true → post 1) (h2 : tx_cd K P c s = false → post 0) : wpX_canDo post (g1, g2, g3, g4, g5, g6, g7, a1, a2, a3, a4, a5, a6, a7, a8, a9, a10, a11, a12, a13) (nI c) s := by
  unfold wpX_canDo
  dsimp only
  have hh := hc.2.2 c h9
  have ho := hc.1.2 c h9
  unfold tx_cd at h1 h2
  rw [nI_clamp (show c < 2 ^ 31 by omega), hh.1, hh.2.1, ty_18]
  refine ⟨pk_in c 9 h9, pk_eq (K c) 4 (fun h => ⟨pk_in c 9 h9, br_c (fun g => h1 ?_) (fun g => h2 ?_)⟩) (fun h => h1 ?_)⟩
  · rw [if_pos h]
    exact decide_eq_true g
  · rw [if_pos h]
    exact decide_eq_false g
  · rw [if_neg h]
theorem ty_after {post : Int32 → Prop} (hc : ty_cf S K P N a1 a2 a3 a4) {c : Nat} (h9 : c < 9) {s : Int32}
    (h : post (tx_af K P N c s)) : wpX_after post (g1, g2, g3, g4, g5, g6, g7, a1, a2, a3, a4, a5, a6, a7, a8, a9, a10, a11, a12, a13) (nI c) s := by
  unfold wpX_after
  dsimp only
  have hh := hc.2.2 c h9
  have ho := hc.1.2 c h9
  unfold tx_af at h
  rw [nI_clamp (show c < 2 ^ 31 by omega), hh.1, hh.2.1, hh.2.2]
  refine ⟨by decide, nm_r (ty_d3 (by omega)) ⟨pk_in c 9 h9, nm_r (ty_3p _) (nm_r (ty_9 _) (nm_e (nm_e ⟨pk_in c 9 h9, nm_e ?_⟩)))⟩⟩
  refine pk_eq (K c) 0 (fun k0 => ?_) (fun k0 => ?_)
  · rw [if_pos k0] at h
    exact h
  · rw [if_neg k0] at h
    refine pk_eq (K c) 1 (fun k1 => ⟨pk_in c 9 h9, ?_⟩) (fun k1 => ?_)
    · rw [if_pos k1] at h
      exact h
    · rw [if_neg k1] at h
      refine pk_eq (K c) 2 (fun k2 => ⟨pk_in c 9 h9, ?_⟩) (fun k2 => ?_)
      · rw [if_pos k2] at h
        exact h
      · rw [if_neg k2] at h
        refine pk_eq (K c) 3 (fun k3 => ⟨pk_in c 9 h9, ?_⟩) (fun k3 => ⟨pk_in c 9 h9, nm_r (ty_18 _) (nm_e ?_)⟩)
        · rw [if_pos k3] at h
          exact h
        · rw [if_neg k3] at h
          refine pk_eq (K c) 4 (fun k4 => ?_) (fun k4 => ?_)
          · rw [if_pos k4] at h
            rw [nI_1]
            exact h
          · rw [if_neg k4] at h
            rw [nI_1]
            refine br_c (fun g => ?_) (fun g => ?_)
            · rw [if_pos (show tx_tg s (18 + 2 * P c) 3 = nI (c / 3 + 1) from g)] at h
              exact h
            · rw [if_neg (show ¬ tx_tg s (18 + 2 * P c) 3 = nI (c / 3 + 1) from g)] at h
              exact h
/-- a boolean on the stack -/
def ty_b (b : Bool) : Int32 := cond b 1 0
theorem ty_87 {post : Int32 → Prop} (hc : ty_cf S K P N a1 a2 a3 a4) {a b : Nat} (ha : a < 9) (hb : b < 9) (l v r : Bool)
    (h1 : (P a = P b ∧ (l = true ∨ (v = true ∧ r = false))) → post 1) (h0 : ¬ (P a = P b ∧ (l = true ∨ (v = true ∧ r = false))) → post 0) :
    wX_areTied_87 post (nI a) (nI b) (ty_b l) (ty_b v) (ty_b r) g1 g2 g3 g4 g5 g6 g7 a1 a2 a3 a4 a5 a6 a7 a8 a9 a10 a11 a12 a13 := by
  unfold wX_areTied_87
  have oa := hc.1.2 a ha
  have ob := hc.1.2 b hb
  rw [nI_clamp (show a < 2 ^ 31 by omega), nI_clamp (show b < 2 ^ 31 by omega), (hc.2.2 a ha).2.1, (hc.2.2 b hb).2.1]
  refine ⟨pk_in a 9 ha, pk_in b 9 hb, pk_eq (P a) (P b) (fun e => ?_) (fun e => h0 (fun g => e g.1))⟩
  cases l with
  | true => exact br_f (by decide) (h1 ⟨e, .inl rfl⟩)
  | false =>
    refine br_t rfl ?_
    cases v with
    | false => exact br_t rfl (h0 (fun g => by simp at g))
    | true =>
      refine br_f (by decide) ?_
      cases r with
      | false => exact br_t rfl (h1 ⟨e, .inr ⟨rfl, rfl⟩⟩)
      | true => exact br_f (by decide) (h0 (fun g => by simp at g))
theorem ty_62 {post : Int32 → Prop} (hc : ty_cf S K P N a1 a2 a3 a4) {a b : Nat} (ha : a < 9) (hb : b < 9) (l v : Bool)
    (h1 : (P a = P b ∧ (l = true ∨ (v = true ∧ ¬ (K a = 0 ∧ K b = 0)))) → post 1) (h0 : ¬ (P a = P b ∧ (l = true ∨ (v = true ∧ ¬ (K a = 0 ∧ K b = 0)))) → post 0) :
    wX_areTied_62 post (nI a) (nI b) (ty_b l) (ty_b v) g1 g2 g3 g4 g5 g6 g7 a1 a2 a3 a4 a5 a6 a7 a8 a9 a10 a11 a12 a13 := by
  unfold wX_areTied_62
  have oa := hc.1.2 a ha
  have ob := hc.1.2 b hb
  rw [nI_clamp (show a < 2 ^ 31 by omega), nI_clamp (show b < 2 ^ 31 by omega), (hc.2.2 a ha).1, (hc.2.2 b hb).1]
  have F : ¬ (K a = 0 ∧ K b = 0) → wX_areTied_86 post (nI a) (nI b) (ty_b l) (ty_b v) g1 g2 g3 g4 g5 g6 g7 a1 a2 a3 a4 a5 a6 a7 a8 a9 a10 a11 a12 a13 := by
    intro g
    exact ty_87 hc ha hb l v false (fun h => h1 ⟨h.1, h.2.imp id (fun h => ⟨h.1, g⟩)⟩) (fun h => h0 (fun h' => h ⟨h'.1, h'.2.imp id (fun h => ⟨h.1, rfl⟩)⟩))
  refine ⟨pk_in a 9 ha, pk_eq (K a) 0 (fun e => ⟨pk_in b 9 hb, pk_eq (K b) 0 (fun e' => ?_) (fun e' => F (fun h => e' h.2))⟩) (fun e => F (fun h => e h.1))⟩
  exact ty_87 hc ha hb l v true (fun h => h1 ⟨h.1, h.2.imp id (fun h => absurd h.2 (by decide))⟩) (fun h => h0 (fun h' => h ⟨h'.1, h'.2.imp id (fun h => absurd ⟨e, e'⟩ h.2)⟩))
theorem ty_36 {post : Int32 → Prop} (hc : ty_cf S K P N a1 a2 a3 a4) {a b : Nat} (ha : a < 9) (hb : b < 9) (l : Bool)
    (h1 : (P a = P b ∧ (l = true ∨ ((K a < 4 ∧ K b < 4) ∧ ¬ (K a = 0 ∧ K b = 0)))) → post 1) (h0 : ¬ (P a = P b ∧ (l = true ∨ ((K a < 4 ∧ K b < 4) ∧ ¬ (K a = 0 ∧ K b = 0)))) → post 0) :
    wX_areTied_36 post (nI a) (nI b) (ty_b l) g1 g2 g3 g4 g5 g6 g7 a1 a2 a3 a4 a5 a6 a7 a8 a9 a10 a11 a12 a13 := by
  unfold wX_areTied_36
  have oa := hc.1.2 a ha
  have ob := hc.1.2 b hb
  rw [nI_clamp (show a < 2 ^ 31 by omega), nI_clamp (show b < 2 ^ 31 by omega), (hc.2.2 a ha).1, (hc.2.2 b hb).1]
  have F : ¬ (K a < 4 ∧ K b < 4) → wX_areTied_61 post (nI a) (nI b) (ty_b l) g1 g2 g3 g4 g5 g6 g7 a1 a2 a3 a4 a5 a6 a7 a8 a9 a10 a11 a12 a13 := by
    intro g
    exact ty_62 hc ha hb l false (fun h => h1 ⟨h.1, h.2.imp id (fun h => absurd h.1 (by decide))⟩) (fun h => h0 (fun h' => h ⟨h'.1, h'.2.imp id (fun h => absurd h.1 g)⟩))
  refine ⟨pk_in a 9 ha, pk_le 4 (K a) (fun e => F (fun h => by omega)) (fun e => ⟨pk_in b 9 hb, pk_le 4 (K b) (fun e' => F (fun h => by omega)) (fun e' => ?_)⟩)⟩
  exact ty_62 hc ha hb l true (fun h => h1 ⟨h.1, h.2.imp id (fun h => ⟨⟨e, e'⟩, h.2⟩)⟩) (fun h => h0 (fun h' => h ⟨h'.1, h'.2.imp id (fun h => ⟨rfl, h.2⟩)⟩))
theorem ty_tied {post : Int32 → Prop} (hc : ty_cf S K P N a1 a2 a3 a4) {a b : Nat} (ha : a < 9) (hb : b < 9)
    (h1 : tx_td K P a b = true → post 1) (h0 : tx_td K P a b = false → post 0) : wpX_areTied post (g1, g2, g3, g4, g5, g6, g7, a1, a2, a3, a4, a5, a6, a7, a8, a9, a10, a11, a12, a13) (nI a) (nI b) := by
  unfold wpX_areTied
  dsimp only
  have oa := hc.1.2 a ha
  have ob := hc.1.2 b hb
  rw [ty_d3 (by omega), ty_d3 (by omega), nI_clamp (show a < 2 ^ 31 by omega), nI_clamp (show b < 2 ^ 31 by omega), (hc.2.2 a ha).1, (hc.2.2 b hb).1]
  unfold tx_td at h1 h0
  have F : a / 3 ≠ b / 3 → ¬ (4 ≤ K a ∧ 4 ≤ K b) → wX_areTied_35 post (nI a) (nI b) g1 g2 g3 g4 g5 g6 g7 a1 a2 a3 a4 a5 a6 a7 a8 a9 a10 a11 a12 a13 := by
    intro g g2
    exact ty_36 hc ha hb false (fun h => h1 (decide_eq_true (.inr ⟨h.1, h.2.elim (fun z => absurd z (by decide)) (fun z => .inr ⟨z.1.1, z.1.2, z.2⟩)⟩))) (fun h => h0 (decide_eq_false (fun z => z.elim g (fun z => h ⟨z.1, z.2.elim (fun y => absurd y g2) (fun y => .inr ⟨⟨y.1, y.2.1⟩, y.2.2⟩)⟩))))
  refine ⟨by decide, by decide, pk_eq (a / 3) (b / 3) (fun e => h1 (decide_eq_true (.inl e))) (fun e => ⟨pk_in a 9 ha, pk_lt (K a) 4 (fun g => F e (by omega)) (fun g => ⟨pk_in b 9 hb, pk_lt (K b) 4 (fun g' => F e (by omega)) (fun g' => ?_)⟩)⟩)⟩
  exact ty_36 hc ha hb true (fun h => h1 (decide_eq_true (.inr ⟨h.1, .inl ⟨g, g'⟩⟩))) (fun h => h0 (decide_eq_false (fun z => z.elim e (fun z => h ⟨z.1, .inl rfl⟩))))
/-- whether no thread can take a step -/
theorem ty_isEnd {post : Int32 → Prop} (hc : ty_cf S K P N a1 a2 a3 a4) {e : Nat → Nat} (he : ∀ t, t < 3 → e t ≤ 3) {d : Nat} (hd : d < 11) {s : Int32} (h6 : a6 d = s) (h7 : a7 d = ty_ee e)
    (h1 : tx_end S K P s e = true → post 1) (h0 : tx_end S K P s e = false → post 0) : wpX_isEnd post (g1, g2, g3, g4, g5, g6, g7, a1, a2, a3, a4, a5, a6, a7, a8, a9, a10, a11, a12, a13) (nI d) := by
  unfold wpX_isEnd
  dsimp only
  refine pk_loop (σ := Unit) (fun n i _ => wX_isEnd_2 post (nI d) g1 g2 g3 g4 g5 g6 g7 a1 a2 a3 a4 a5 a6 a7 a8 a9 a10 a11 a12 a13 n (nI i)) (fun i _ => ∀ j, j < i → tx_en S K P s e j = false) 3 0 () (by omega) (fun j h => absurd h (by omega)) ?_ ?_
  · intro n _ h
    refine pk_le 3 3 (fun _ => h1 ?_) (fun z => absurd z (by omega))
    unfold tx_end
    rw [h 0 (by omega), h 1 (by omega), h 2 (by omega)]
    rfl
  · intro n i _ hi h hw
    have hS := hc.1.1 i hi
    have e3 := he i hi
    refine pk_le 3 i (fun z => absurd z (by omega)) (fun _ => ⟨pk_in d 11 hd, ?_⟩)
    have hN : tx_en S K P s e i = false → wX_isEnd_2 post (nI d) g1 g2 g3 g4 g5 g6 g7 a1 a2 a3 a4 a5 a6 a7 a8 a9 a10 a11 a12 a13 n (nI (i + 1)) := fun g => hw () (fun j hj => by
      by_cases z : j = i
      · rw [z]; exact g
      · exact h j (by omega))
    rw [nI_clamp (show d < 2 ^ 31 by omega), h7, h6]
    refine ty_next hc he hi (fun g => ?_) (fun g => ?_)
    · refine br_f (nI_pos (by omega)) ⟨pk_in d 11 hd, ty_can hc (by omega) (fun z => br_f (by decide) (h0 ?_)) (fun z => br_t rfl (nm_r (nI_1 i) (hN ?_)))⟩
      · have hen : tx_en S K P s e i = true := tx_en_mk g z
        unfold tx_end
        rcases (show i = 0 ∨ i = 1 ∨ i = 2 by omega) with rfl | rfl | rfl
        · rw [hen]; rfl
        · rw [hen]; simp
        · rw [hen]; simp
      · unfold tx_en
        rw [z, Bool.and_false]
    · refine br_t (by decide) (nm_r (nI_1 i) (hN ?_))
      unfold tx_en
      rw [decide_eq_false (by omega), Bool.false_and]
end
end
section
/-! The walk: enter, finish -/
def ty_z3 (a b c : Bool) : Int32 := nI (cond a 1 0 + cond b 2 0 + cond c 4 0)
def ty_zz (Z : Nat → Bool) : Int32 := ty_z3 (Z 0) (Z 1) (Z 2)
theorem ty_zG : ∀ a b c : Bool, ((ty_z3 a b c >>> (nI 0 &&& 31)) &&& 1) = ty_b a ∧ ((ty_z3 a b c >>> (nI 1 &&& 31)) &&& 1) = ty_b b ∧ ((ty_z3 a b c >>> (nI 2 &&& 31)) &&& 1) = ty_b c := by decide +kernel
theorem ty_zO : ∀ a b c : Bool, (ty_z3 a b c ||| ((1 : Int32) <<< (nI 0 &&& 31))) = ty_z3 true b c ∧ (ty_z3 a b c ||| ((1 : Int32) <<< (nI 1 &&& 31))) = ty_z3 a true c ∧ (ty_z3 a b c ||| ((1 : Int32) <<< (nI 2 &&& 31))) = ty_z3 a b true := by decide +kernel
theorem ty_zzG (Z : Nat → Bool) {t : Nat} (ht : t < 3) : ((ty_zz Z >>> (nI t &&& 31)) &&& 1) = ty_b (Z t) := by
  unfold ty_zz
  have h := ty_zG (Z 0) (Z 1) (Z 2)
  rcases (show t = 0 ∨ t = 1 ∨ t = 2 by omega) with rfl | rfl | rfl
  · exact h.1
  · exact h.2.1
  · exact h.2.2
theorem ty_zzO (Z : Nat → Bool) {t : Nat} (ht : t < 3) : (ty_zz Z ||| ((1 : Int32) <<< (nI t &&& 31))) = ty_zz (tx_zt true Z t) := by
  unfold ty_zz tx_zt
  have h := ty_zO (Z 0) (Z 1) (Z 2)
  rcases (show t = 0 ∨ t = 1 ∨ t = 2 by omega) with rfl | rfl | rfl
  · rw [h.1]; simp
  · rw [h.2.1]; simp
  · rw [h.2.2]; simp
theorem ty_zzF (Z : Nat → Bool) (t : Nat) : tx_zt false Z t = Z := by
  funext o
  unfold tx_zt
  simp
/-- the sleepers found so far among the first i threads -/
def ty_mk (Z : Nat → Bool) (i : Nat) : Int32 := ty_zz (fun o => decide (o < i) && Z o)
theorem ty_mk0 (Z : Nat → Bool) : ty_mk Z 0 = 0 := rfl
theorem ty_mk3 (Z : Nat → Bool) : ty_mk Z 3 = ty_zz Z := by
  unfold ty_mk ty_zz
  simp
theorem ty_mkT (Z : Nat → Bool) {i : Nat} (hi : i < 3) (h : Z i = true) : ty_mk Z i ||| ((1 : Int32) <<< (nI i &&& 31)) = ty_mk Z (i + 1) := by
  unfold ty_mk ty_zz
  rcases (show i = 0 ∨ i = 1 ∨ i = 2 by omega) with rfl | rfl | rfl
  · rw [(ty_zO _ _ _).1]; simp [h]
  · rw [(ty_zO _ _ _).2.1]; simp [h]
  · rw [(ty_zO _ _ _).2.2]; simp [h]
theorem ty_mkF (Z : Nat → Bool) {i : Nat} (hi : i < 3) (h : Z i = false) : ty_mk Z i = ty_mk Z (i + 1) := by
  unfold ty_mk ty_zz
  rcases (show i = 0 ∨ i = 1 ∨ i = 2 by omega) with rfl | rfl | rfl <;> simp [h]
/-- a leaf: is it complete, its result, whether step F stands ahead of step B in it -/
def tx_cm (S : Nat → Nat) (l : tx_Lf) : Bool := decide (l.1 = S 0 + S 1 + S 2)
def tx_rs (s : Int32) : Nat := 64 * (s.toBitVec.toNat % 8) + 8 * ((s >>> ((3 : Int32) &&& 31)).toBitVec.toNat % 8) + (s >>> ((6 : Int32) &&& 31)).toBitVec.toNat % 8
def tx_io (S : Nat → Nat) (F B : Int32) (l : tx_Lf) : Bool := tx_cm S l && decide (tx_ix l.2.1 F l.1 l.1 < tx_ix l.2.1 B l.1 l.1)
def tx_g (S : Nat → Nat) (L : List tx_Lf) (r : Nat) : Nat := L.countP (fun x => tx_cm S x && decide (tx_rs x.2.2 = r))
def ty_ac (S : Nat → Nat) (F B : Int32) (L : List tx_Lf) (g1 g2 g3 g7 : Int32) (a11 : Nat → Int32) : Prop :=
  g1 = nI L.length ∧ g2 = nI L.length ∧ g3 = nI (L.countP (fun x => !tx_cm S x)) ∧ g7 = ty_b (L.any (tx_io S F B)) ∧ ∀ r, r < 512 → a11 r = nI (tx_g S L r)
theorem tx_rsl (s : Int32) : tx_rs s < 512 := by
  unfold tx_rs
  omega
theorem tx_rsI (s : Int32) : ((64 * (s &&& 7)) + (8 * ((s >>> ((3 : Int32) &&& 31)) &&& 7))) + ((s >>> ((6 : Int32) &&& 31)) &&& 7) = nI (tx_rs s) := by
  rw [pk_and s 3 (by decide), pk_and (s >>> ((3 : Int32) &&& 31)) 3 (by decide), pk_and (s >>> ((6 : Int32) &&& 31)) 3 (by decide), show (64 : Int32) = nI 64 from rfl, show (8 : Int32) = nI 8 from rfl, pk_mul, pk_mul, nI_add, nI_add]
  rfl
theorem tx_ixb (W : Nat → Nat) (a : Int32) (x : Nat) : ∀ k, tx_ix W a x k ≤ x + k := by
  intro k
  induction k with
  | zero => exact Nat.le_refl _
  | succ k ih =>
    show (if nI (W k) = a then k else tx_ix W a x k) ≤ _
    by_cases h : nI (W k) = a
    · rw [if_pos h]; omega
    · rw [if_neg h]; omega
section
variable {S K P N : Nat → Nat} {g1 g2 g3 g4 g5 g6 g7 : Int32} {a1 a2 a3 a4 a5 a6 a7 a8 a9 a10 a11 a12 a13 : Nat → Int32}
theorem ty_en139 {post : St1 → Prop} {d : Nat} (hd : d < 10) (H : ∀ x, post (g1, g2, g3, g4, g5, g6, g7, a1, a2, a3, a4, a5, a6, a7, a8, a9, a10, a11, x, a13)) : ∃ n, wX_enter_139 post (nI d) g1 g2 g3 g4 g5 g6 g7 n 0 a1 a2 a3 a4 a5 a6 a7 a8 a9 a10 a11 a12 a13 :=
  pk_loop (σ := Nat → Int32) (fun n i x => wX_enter_139 post (nI d) g1 g2 g3 g4 g5 g6 g7 n (nI i) a1 a2 a3 a4 a5 a6 a7 a8 a9 a10 a11 x a13) (fun _ _ => True) 3 0 a12 (by omega) trivial
    (fun n x _ => pk_le 3 3 (fun _ => H x) (fun z => absurd z (by omega)))
    (fun n i x hi _ hw => pk_le 3 i (fun z => absurd z (by omega)) (fun _ => ⟨pk_in (d + 1) 11 (by omega) (nI_1 d), nm_e ⟨pk_in i 3 hi, br_c (fun _ => ⟨pk_in i 3 hi, pk_in i 3 hi, nm_e (nm_r (nI_1 i) (hw _ trivial))⟩) (fun _ => ⟨pk_in i 3 hi, nm_e (nm_r (nI_1 i) (hw _ trivial))⟩)⟩⟩))
theorem ty_en52 {post : St1 → Prop} (hc : ty_cf S K P N a1 a2 a3 a4) {e : Nat → Nat} (he : ∀ t, t < 3 → e t ≤ 3) {t : Nat} (ht : t < 3) (hlt : e t < S t) {d : Nat} (hd : d < 10) {Z : Nat → Bool} (h7 : a7 d = ty_ee e) (h8 : a8 d = ty_zz Z)
    (H : ∀ x, post (g1, g2, g3, g4, g5, g6, g7, a1, a2, a3, a4, a5, a6, a7, upd a8 (d + 1) (ty_zz (tx_zs S K P Z e t)), upd a9 (d + 1) 0, a10, a11, x, a13)) : ∃ n, wX_enter_52 post (nI d) (nI (3 * t + e t)) g1 g2 g3 g4 g5 g6 g7 a1 a2 a3 a4 a5 a6 a7 a8 a9 a10 a11 a12 a13 n 0 0 := by
  have hSt := hc.1.1 t ht
  refine pk_loop (σ := Int32) (fun n i x => wX_enter_52 post (nI d) (nI (3 * t + e t)) g1 g2 g3 g4 g5 g6 g7 a1 a2 a3 a4 a5 a6 a7 a8 a9 a10 a11 a12 a13 n x (nI i)) (fun i x => x = ty_mk (tx_zs S K P Z e t) i) 3 0 0 (by omega) (ty_mk0 _).symm ?_ ?_
  · intro n x h
    rw [ty_mk3] at h
    subst h
    refine pk_le 3 3 (fun _ => ?_) (fun z => absurd z (by omega))
    rw [nI_1, nI_clamp (show d + 1 < 2 ^ 31 by omega)]
    exact ⟨pk_in (d + 1) 11 (by omega), nm_e ⟨pk_in (d + 1) 11 (by omega), nm_e (ty_en139 hd H)⟩⟩
  · intro n i x hi h hw
    have hSi := hc.1.1 i hi
    have e3 := he i hi
    refine pk_le 3 i (fun z => absurd z (by omega)) (fun _ => ⟨pk_in d 11 (by omega), ?_⟩)
    have hF : tx_zs S K P Z e t i = false → wX_enter_52 post (nI d) (nI (3 * t + e t)) g1 g2 g3 g4 g5 g6 g7 a1 a2 a3 a4 a5 a6 a7 a8 a9 a10 a11 a12 a13 n x (nI (i + 1)) := fun g => hw x (by rw [h]; exact ty_mkF _ hi g)
    have hT : tx_zs S K P Z e t i = true → wX_enter_52 post (nI d) (nI (3 * t + e t)) g1 g2 g3 g4 g5 g6 g7 a1 a2 a3 a4 a5 a6 a7 a8 a9 a10 a11 a12 a13 n (x ||| ((1 : Int32) <<< (nI i &&& 31))) (nI (i + 1)) := fun g => hw _ (by rw [h]; exact ty_mkT _ hi g)
    unfold tx_zs at hF hT
    rw [nI_clamp (show d < 2 ^ 31 by omega), h7, h8, ty_zzG Z hi]
    refine ty_next hc he hi (fun g => ⟨pk_in d 11 (by omega), ?_⟩) (fun g => ⟨pk_in d 11 (by omega), ?_⟩)
    · rw [decide_eq_true g] at hF hT
      cases hz : Z i with
      | false =>
        rw [hz] at hF
        exact br_f (by decide) (nm_r (nI_1 i) (hF rfl))
      | true =>
        rw [hz] at hF hT
        refine br_t rfl (br_f (nI_pos (by omega)) (ty_tied hc (by omega) (by omega) (fun z => br_f (by decide) (nm_r (nI_1 i) (hF ?_))) (fun z => br_t rfl (nm_e (nm_r (nI_1 i) (hT ?_))))))
        · rw [z]; rfl
        · rw [z]; rfl
    · rw [decide_eq_false (show ¬ e i < S i by omega), Bool.false_and, Bool.and_false] at hF
      exact br_c (fun _ => br_t (by decide) (nm_r (nI_1 i) (hF rfl))) (fun _ => nm_r (nI_1 i) (hF rfl))
theorem ty_enter {post : St1 → Prop} (hc : ty_cf S K P N a1 a2 a3 a4) {e : Nat → Nat} (he : ∀ t, t < 3 → e t ≤ 3) {t : Nat} (ht : t < 3) (hlt : e t < S t) {d : Nat} (hd : d < 10) {Z : Nat → Bool} {s : Int32} (h6 : a6 d = s) (h7 : a7 d = ty_ee e) (h8 : a8 d = ty_zz Z)
    (H : ∀ x, post (g1, g2, g3, g4, g5, g6, g7, a1, a2, a3, a4, a5, upd a6 (d + 1) (tx_af K P N (3 * t + e t) s), upd a7 (d + 1) (ty_ee (tx_up e t)), upd a8 (d + 1) (ty_zz (tx_zs S K P Z e t)), upd a9 (d + 1) 0, upd a10 d (nI (3 * t + e t)), a11, x, a13)) : wpX_enter post (g1, g2, g3, g4, g5, g6, g7, a1, a2, a3, a4, a5, a6, a7, a8, a9, a10, a11, a12, a13) (nI d) (nI t) (nI (3 * t + e t)) := by
  have hSt := hc.1.1 t ht
  unfold wpX_enter
  dsimp only
  rw [nI_1, nI_clamp (show d < 2 ^ 31 by omega), nI_clamp (show d + 1 < 2 ^ 31 by omega), h6, h7, ty_eeU ht]
  refine ⟨pk_in d 11 (by omega), ty_after hc (by omega) ⟨pk_in (d + 1) 11 (by omega), nm_e ⟨pk_in d 11 (by omega), pk_in (d + 1) 11 (by omega), nm_e ⟨pk_in d 10 (by omega), nm_e ?_⟩⟩⟩⟩
  exact ty_en52 hc he ht hlt hd (by rw [pk_un (by omega)]; exact h7) h8 H
theorem ty_f190 {post : St1 → Prop} {d : Nat} (hd : d < 10) {W : Nat → Nat} (h10 : ∀ i, i < d → a10 i = nI (W i))
    (H0 : g7 = 0 → ¬ tx_ix W g5 d d < tx_ix W g6 d d → post (g1, g2, g3, g4, g5, g6, 0, a1, a2, a3, a4, a5, a6, a7, a8, a9, a10, a11, a12, a13)) (H1 : (¬ g7 = 0 ∨ tx_ix W g5 d d < tx_ix W g6 d d) → post (g1, g2, g3, g4, g5, g6, 1, a1, a2, a3, a4, a5, a6, a7, a8, a9, a10, a11, a12, a13)) : ∃ n, wX_finish_190 post (nI d) g1 g2 g3 g4 g5 g6 g7 a1 a2 a3 a4 a5 a6 a7 a8 a9 a10 a11 a12 a13 n (nI d) (nI d) 0 := by
  refine pk_loop (σ := Unit) (fun n i _ => wX_finish_190 post (nI d) g1 g2 g3 g4 g5 g6 g7 a1 a2 a3 a4 a5 a6 a7 a8 a9 a10 a11 a12 a13 n (nI (tx_ix W g5 d i)) (nI (tx_ix W g6 d i)) (nI i)) (fun _ _ => True) d 0 () (by omega) trivial ?_ ?_
  · intro n _ _
    have b5 := tx_ixb W g5 d d
    have b6 := tx_ixb W g6 d d
    refine pk_le d d (fun _ => ?_) (fun z => absurd z (by omega))
    exact br_c (fun z => pk_le (tx_ix W g6 d d) (tx_ix W g5 d d) (fun y => H0 z (by omega)) (fun y => H1 (.inr y))) (fun z => H1 (.inl z))
  · intro n i _ hi _ hw
    have hw' := hw () trivial
    have E : ∀ a, tx_ix W a d (i + 1) = if nI (W i) = a then i else tx_ix W a d i := fun _ => rfl
    rw [E, E] at hw'
    refine pk_le d i (fun z => absurd z (by omega)) (fun _ => ⟨pk_in i 10 (by omega), ?_⟩)
    unfold wX_finish_217
    rw [nI_clamp (show i < 2 ^ 31 by omega), h10 i hi]
    refine br_c (fun y => ⟨pk_in i 10 (by omega), ?_⟩) (fun y => ⟨pk_in i 10 (by omega), ?_⟩)
    · rw [if_pos y] at hw'
      refine br_c (fun z => nm_r (nI_1 i) ?_) (fun z => nm_r (nI_1 i) ?_)
      · rw [if_pos z] at hw'
        exact hw'
      · rw [if_neg z] at hw'
        exact hw'
    · rw [if_neg y] at hw'
      refine br_c (fun z => nm_r (nI_1 i) ?_) (fun z => nm_r (nI_1 i) ?_)
      · rw [if_pos z] at hw'
        exact hw'
      · rw [if_neg z] at hw'
        exact hw'
theorem ty_f140 {post : St1 → Prop} {d : Nat} {s : Int32} (H : ∀ x, ∃ n, wX_finish_190 post (nI d) g1 g2 g3 g4 g5 g6 g7 a1 a2 a3 a4 a5 a6 a7 a8 a9 a10 a11 a12 x n (nI d) (nI d) 0) : ∃ n, wX_finish_140 post (nI d) s g1 g2 g3 g4 g5 g6 g7 n 0 a1 a2 a3 a4 a5 a6 a7 a8 a9 a10 a11 a12 a13 :=
  pk_loop (σ := Nat → Int32) (fun n i x => wX_finish_140 post (nI d) s g1 g2 g3 g4 g5 g6 g7 n (nI i) a1 a2 a3 a4 a5 a6 a7 a8 a9 a10 a11 a12 x) (fun _ _ => True) 3 0 a13 (by omega) trivial
    (fun n x _ => pk_le 3 3 (fun _ => H x) (fun z => absurd z (by omega)))
    (fun n i x hi _ hw => pk_le 3 i (fun z => absurd z (by omega)) (fun _ => ⟨pk_in i 3 hi, pk_in i 3 hi, nm_e (nm_r (nI_1 i) (hw _ trivial))⟩))
theorem ty_fin {post : St1 → Prop} (hc : ty_cf S K P N a1 a2 a3 a4) {d : Nat} (hd : d < 10) {W : Nat → Nat} {s : Int32} (h6 : a6 d = s) (h10 : ∀ i, i < d → a10 i = nI (W i)) {L : List tx_Lf} (hac : ty_ac S g5 g6 L g1 g2 g3 g7 a11)
    (H : ∀ y1 y2 y3 y4 y7 b11 b13, ty_ac S g5 g6 (L ++ [(d, W, s)]) y1 y2 y3 y7 b11 → post (y1, y2, y3, y4, g5, g6, y7, a1, a2, a3, a4, a5, a6, a7, a8, a9, a10, b11, a12, b13)) : wpX_finish post (g1, g2, g3, g4, g5, g6, g7, a1, a2, a3, a4, a5, a6, a7, a8, a9, a10, a11, a12, a13) (nI d) := by
  obtain ⟨c1, c2, c3, c7, c11⟩ := hac
  have s0 := hc.1.1 0 (by omega)
  have s1 := hc.1.1 1 (by omega)
  have s2 := hc.1.1 2 (by omega)
  unfold wpX_finish
  dsimp only
  have l1 : nI L.length + 1 = nI (L ++ [(d, W, s)]).length := by
    rw [List.length_append, List.length_singleton, nI_1]
  rw [hc.2.1 0 (by omega), hc.2.1 1 (by omega), hc.2.1 2 (by omega), nI_add, nI_add, c1, c2]
  refine nm_r l1 (nm_r l1 (pk_eq d (S 0 + S 1 + S 2) (fun g => ?_) (fun g => ?_)))
  · have hcm : tx_cm S (d, W, s) = true := decide_eq_true g
    unfold wX_finish_49
    rw [nI_clamp (show d < 2 ^ 31 by omega)]
    refine br_f (by decide) ⟨pk_in d 11 (by omega), nm_r h6 (nm_r (tx_rsI s) ⟨pk_in _ 512 (tx_rsl s), pk_in _ 512 (tx_rsl s), ?_⟩)⟩
    have hr := tx_rsl s
    rw [nI_clamp (show tx_rs s < 2 ^ 31 by omega), c11 _ hr, nI_1]
    have A3 : nI ((L ++ [(d, W, s)]).countP (fun x => !tx_cm S x)) = g3 := by
      rw [List.countP_append, c3]
      simp [hcm]
    have A11 : ∀ r, r < 512 → upd a11 (tx_rs s) (nI (tx_g S L (tx_rs s) + 1)) r = nI (tx_g S (L ++ [(d, W, s)]) r) := by
      intro r hr2
      unfold tx_g
      rw [List.countP_append]
      by_cases z : r = tx_rs s
      · subst z
        rw [pk_us]
        simp [hcm]
      · rw [pk_un z, c11 r hr2]
        unfold tx_g
        have z' : ¬ tx_rs s = r := fun h => z h.symm
        simp [z']
    have A7 : ∀ b : Bool, (L.any (tx_io S g5 g6) || decide (tx_ix W g5 d d < tx_ix W g6 d d)) = b → ty_b b = ty_b ((L ++ [(d, W, s)]).any (tx_io S g5 g6)) := by
      intro b hb
      rw [← hb, List.any_append]
      unfold tx_io
      simp [hcm]
    refine nm_e (ty_f140 (fun x => ty_f190 hd h10 (fun y y2 => ?_) (fun y => ?_)))
    · refine H _ _ _ _ _ _ _ ⟨rfl, rfl, A3.symm, A7 false ?_, A11⟩
      rw [decide_eq_false y2, Bool.or_false]
      rw [c7] at y
      rcases hb : L.any (tx_io S g5 g6) with _ | _
      · rfl
      · rw [hb] at y
        exact absurd y (by decide)
    · refine H _ _ _ _ _ _ _ ⟨rfl, rfl, A3.symm, A7 true ?_, A11⟩
      rcases y with y | y
      · rcases hb : L.any (tx_io S g5 g6) with _ | _
        · rw [c7, hb] at y
          exact absurd rfl y
        · rfl
      · rw [decide_eq_true y, Bool.or_true]
  · have hcm : tx_cm S (d, W, s) = false := decide_eq_false g
    have A3 : g3 + 1 = nI ((L ++ [(d, W, s)]).countP (fun x => !tx_cm S x)) := by
      rw [List.countP_append, c3, nI_1]
      simp [hcm]
    have A11 : ∀ r, r < 512 → a11 r = nI (tx_g S (L ++ [(d, W, s)]) r) := by
      intro r hr2
      unfold tx_g
      rw [List.countP_append, c11 r hr2]
      unfold tx_g
      simp [hcm]
    have A7 : g7 = ty_b ((L ++ [(d, W, s)]).any (tx_io S g5 g6)) := by
      rw [c7, List.any_append]
      unfold tx_io
      simp [hcm]
    unfold wX_finish_49
    refine br_t rfl (nm_r A3 (br_c (fun _ => ?_) (fun _ => br_c (fun _ => ?_) (fun _ => ?_)))) <;> exact H _ _ _ _ _ _ _ ⟨rfl, rfl, rfl, A7, A11⟩
end
end
section
/-! The walk: the loop of explore, clear, explore -/
def ty_fr (d : Nat) (a6 a7 a8 a9 a10 b6 b7 b8 b9 b10 : Nat → Int32) : Prop := ∀ j, j < d → b6 j = a6 j ∧ b7 j = a7 j ∧ b8 j = a8 j ∧ b9 j = a9 j ∧ b10 j = a10 j
/-- the turns of the loop from turn 3 - r on -/
def tx_cr (S : Nat → Nat) (k : Nat) (e : Nat → Nat) : Nat → Nat
  | 0 => 1
  | r + 1 => 1 + tx_ct S k e (2 - r) + tx_cr S k e r
theorem tx_cr3 (S : Nat → Nat) (k : Nat) (e : Nat → Nat) : tx_cr S k e 3 = tx_ce S (k + 1) e := by
  rw [tx_ceS]
  show 1 + tx_ct S k e 0 + (1 + tx_ct S k e 1 + (1 + tx_ct S k e 2 + 1)) = _
  omega
section
variable {S K P N : Nat → Nat} {g1 g2 g3 g4 g5 g6 g7 : Int32} {a1 a2 a3 a4 a5 a6 a7 a8 a9 a10 a11 a12 a13 : Nat → Int32}
theorem ty_exA {post : St1 → Prop} {x1 : Int32} {n k : Nat} (hc : ty_cf S K P N a1 a2 a3 a4) {e : Nat → Nat} (he : ∀ t, t < 3 → e t ≤ 3) {d : Nat} (hd : d < 10) (hk : k < 100000) {W : Nat → Nat} {s : Int32} (h6 : a6 d = s) (h7 : a7 d = ty_ee e) (h9 : a9 d = nI 3) (h10 : ∀ i, i < d → a10 i = nI (W i)) {L : List tx_Lf} (hac : ty_ac S g5 g6 L g1 g2 g3 g7 a11)
    (H : ∀ y1 y2 y3 y4 y7 b11 b13, ty_ac S g5 g6 (L ++ (if tx_end S K P s e = true then [(d, W, s)] else [])) y1 y2 y3 y7 b11 → wX_explore_60 post x1 n (nI d + (-1)) (nI (k + 1)) y1 y2 y3 y4 g5 g6 y7 a1 a2 a3 a4 a5 a6 a7 a8 a9 a10 b11 a12 b13) : wX_explore_60 post x1 (n + 1) (nI d) (nI k) g1 g2 g3 g4 g5 g6 g7 a1 a2 a3 a4 a5 a6 a7 a8 a9 a10 a11 a12 a13 := by
  refine pk_le 100000 k (fun z => absurd z (by omega)) (fun _ => br_f (nI_pos (by omega)) ⟨pk_in d 11 (by omega), ?_⟩)
  rw [nI_clamp (show d < 2 ^ 31 by omega)]
  refine nm_r h9 (pk_eq 3 3 (fun _ => ty_isEnd hc he (by omega) h6 h7 (fun g => ?_) (fun g => ?_)) (fun z => absurd rfl z))
  · rw [if_pos g] at H
    exact br_f (by decide) (ty_fin hc hd h6 h10 hac (fun y1 y2 y3 y4 y7 b11 b13 h => nm_e (nm_r (nI_1 k) (H y1 y2 y3 y4 y7 b11 b13 h))))
  · rw [if_neg (by rw [g]; decide), List.append_nil] at H
    exact br_t rfl (nm_e (nm_r (nI_1 k) (H _ _ _ _ _ _ _ hac)))
theorem ty_exB {post : St1 → Prop} {x1 : Int32} {n k : Nat} (hc : ty_cf S K P N a1 a2 a3 a4) {e : Nat → Nat} (he : ∀ t, t < 3 → e t ≤ 3) {d : Nat} (hd : d < 10) (hk : k < 100000) {s : Int32} {Z : Nat → Bool} {t : Nat} (ht : t < 3) (h6 : a6 d = s) (h7 : a7 d = ty_ee e) (h8 : a8 d = ty_zz Z) (h9 : a9 d = nI t)
    (hno : tx_en S K P s e t = false ∨ Z t = true)
    (H : wX_explore_60 post x1 n (nI d) (nI (k + 1)) g1 g2 g3 g4 g5 g6 g7 a1 a2 a3 a4 a5 a6 a7 a8 (upd a9 d (nI (t + 1))) a10 a11 a12 a13) : wX_explore_60 post x1 (n + 1) (nI d) (nI k) g1 g2 g3 g4 g5 g6 g7 a1 a2 a3 a4 a5 a6 a7 a8 a9 a10 a11 a12 a13 := by
  have hS := hc.1.1 t ht
  have e3 := he t ht
  refine pk_le 100000 k (fun z => absurd z (by omega)) (fun _ => br_f (nI_pos (by omega)) ⟨pk_in d 11 (by omega), ?_⟩)
  rw [nI_clamp (show d < 2 ^ 31 by omega), h9, h7, nI_1 t]
  refine nm_e (pk_eq t 3 (fun z => absurd z (by omega)) (fun _ => ⟨pk_in d 11 (by omega), pk_in d 11 (by omega), nm_e ⟨pk_in d 11 (by omega), ty_next hc he ht (fun g => ?_) (fun g => ?_)⟩⟩))
  · refine br_f (nI_pos (by omega)) ⟨pk_in d 11 (by omega), ?_⟩
    rw [h8, ty_zzG Z ht]
    cases hz : Z t with
    | true => exact br_f (by decide) (br_t rfl (nm_r (nI_1 k) H))
    | false =>
      refine br_t rfl (br_f (by decide) ⟨pk_in d 11 (by omega), ?_⟩)
      rw [nI_clamp (show d < 2 ^ 31 by omega), h6]
      refine ty_can hc (by omega) (fun y => ?_) (fun y => br_t rfl (nm_r (nI_1 k) H))
      rcases hno with h | h
      · rw [tx_en_mk g y] at h
        exact absurd h (by decide)
      · rw [hz] at h
        exact absurd h (by decide)
  · exact br_t (by decide) (br_t rfl (nm_r (nI_1 k) H))
theorem ty_exC {post : St1 → Prop} {q : Bool} {n k : Nat} (hc : ty_cf S K P N a1 a2 a3 a4) {e : Nat → Nat} (he : ∀ t, t < 3 → e t ≤ 3) {d : Nat} (hd : d < 10) (hk : k < 100000) {s : Int32} {Z : Nat → Bool} {t : Nat} (ht : t < 3) (h6 : a6 d = s) (h7 : a7 d = ty_ee e) (h8 : a8 d = ty_zz Z) (h9 : a9 d = nI t)
    (hen : tx_en S K P s e t = true) (hz : Z t = false)
    (H : ∀ b8 b12, b8 (d + 1) = ty_zz (tx_zs S K P Z e t) → b8 d = ty_zz (tx_zt q Z t) → (∀ j, j < d → b8 j = a8 j) → wX_explore_60 post (ty_b q) n (nI (d + 1)) (nI (k + 1)) g1 g2 g3 g4 g5 g6 g7 a1 a2 a3 a4 a5 (upd a6 (d + 1) (tx_af K P N (3 * t + e t) s)) (upd a7 (d + 1) (ty_ee (tx_up e t))) b8 (upd (upd a9 d (nI (t + 1))) (d + 1) 0) (upd a10 d (nI (3 * t + e t))) a11 b12 a13) : wX_explore_60 post (ty_b q) (n + 1) (nI d) (nI k) g1 g2 g3 g4 g5 g6 g7 a1 a2 a3 a4 a5 a6 a7 a8 a9 a10 a11 a12 a13 := by
  have hS := hc.1.1 t ht
  have e3 := he t ht
  have hlt := tx_en_lt hen
  refine pk_le 100000 k (fun z => absurd z (by omega)) (fun _ => br_f (nI_pos (by omega)) ⟨pk_in d 11 (by omega), ?_⟩)
  rw [nI_clamp (show d < 2 ^ 31 by omega), h9, h7, nI_1 t]
  refine nm_e (pk_eq t 3 (fun z => absurd z (by omega)) (fun _ => ⟨pk_in d 11 (by omega), pk_in d 11 (by omega), nm_e ⟨pk_in d 11 (by omega), ty_next hc he ht (fun g => ?_) (fun g => absurd hlt (by omega))⟩⟩))
  refine br_f (nI_pos (by omega)) ⟨pk_in d 11 (by omega), ?_⟩
  rw [h8, ty_zzG Z ht, hz]
  refine br_t rfl (br_f (by decide) ⟨pk_in d 11 (by omega), ?_⟩)
  rw [nI_clamp (show d < 2 ^ 31 by omega), h6]
  refine ty_can hc (by omega) (fun y => br_f (by decide) (ty_enter hc he ht hlt hd h6 h7 h8 (fun b12 => ?_))) (fun y => ?_)
  · cases q with
    | false =>
      refine br_t rfl (nm_r (nI_1 d) (nm_r (nI_1 k) (H _ b12 pk_us ?_ (fun j hj => pk_un (by omega)))))
      rw [pk_un (by omega), ty_zzF, h8]
    | true =>
      refine br_f (by decide) ⟨pk_in d 11 (by omega), pk_in d 11 (by omega), nm_e (nm_r (nI_1 d) (nm_r (nI_1 k) (H _ b12 ?_ ?_ (fun j hj => ?_))))⟩
      · rw [pk_un (by omega), pk_us]
      · rw [pk_us, pk_un (by omega), h8, ty_zzO Z ht]
      · rw [pk_un (by omega), pk_un (by omega)]
  · rw [tx_en_cd hen] at y
    exact absurd y (by decide)
end
/-- a node and all below it: the loop comes back one depth higher, its leaves behind those of before -/
theorem ty_sub {S K P N : Nat → Nat} {post : St1 → Prop} {q : Bool} {g5 g6 : Int32} {a1 a2 a3 a4 a5 : Nat → Int32} (hc : ty_cf S K P N a1 a2 a3 a4) : ∀ (m : Nat) (s : Int32) (e : Nat → Nat) (Z : Nat → Bool) (d : Nat) (W : Nat → Nat) (L : List tx_Lf) (n k : Nat) (y1 y2 y3 y4 y7 : Int32) (b6 b7 b8 b9 b10 b11 b12 b13 : Nat → Int32),
    (∀ t, t < 3 → e t ≤ S t) → d = e 0 + e 1 + e 2 → S 0 + S 1 + S 2 < m + (e 0 + e 1 + e 2) → n + k = 100001 → k + tx_ce S m e ≤ 99999 →
    b6 d = s → b7 d = ty_ee e → b8 d = ty_zz Z → b9 d = nI 0 → (∀ i, i < d → b10 i = nI (W i)) → ty_ac S g5 g6 L y1 y2 y3 y7 b11 →
    (∀ (n' k' : Nat) (z1 z2 z3 z4 z7 : Int32) (c6 c7 c8 c9 c10 c11 c12 c13 : Nat → Int32), n' + k' = 100001 → k' ≤ k + tx_ce S m e → ty_fr d b6 b7 b8 b9 b10 c6 c7 c8 c9 c10 → ty_ac S g5 g6 (L ++ tx_lv S K P N q m s e Z d W) z1 z2 z3 z7 c11 → wX_explore_60 post (ty_b q) n' (nI d + (-1)) (nI k') z1 z2 z3 z4 g5 g6 z7 a1 a2 a3 a4 a5 c6 c7 c8 c9 c10 c11 c12 c13) →
    wX_explore_60 post (ty_b q) n (nI d) (nI k) y1 y2 y3 y4 g5 g6 y7 a1 a2 a3 a4 a5 b6 b7 b8 b9 b10 b11 b12 b13 := by
  intro m
  induction m with
  | zero =>
    intro s e Z d W L n k y1 y2 y3 y4 y7 b6 b7 b8 b9 b10 b11 b12 b13 he hd hm
    have h0 := he 0 (by omega)
    have h1 := he 1 (by omega)
    have h2 := he 2 (by omega)
    omega
  | succ m ih =>
    intro s e Z d W L n k y1 y2 y3 y4 y7 b6 b7 b8 b9 b10 b11 b12 b13 he hd hm hn hk h6 h7 h8 h9 h10 hac H
    have s0 := hc.1.1 0 (by omega)
    have s1 := hc.1.1 1 (by omega)
    have s2 := hc.1.1 2 (by omega)
    have e0 := he 0 (by omega)
    have e1 := he 1 (by omega)
    have e2 := he 2 (by omega)
    have he3 : ∀ t, t < 3 → e t ≤ 3 := fun t ht => Nat.le_trans (he t ht) (hc.1.1 t ht)
    have T : ∀ (r : Nat) (Z : Nat → Bool) (L : List tx_Lf) (n k : Nat) (y1 y2 y3 y4 y7 : Int32) (b6 b7 b8 b9 b10 b11 b12 b13 : Nat → Int32), r ≤ 3 → n + k = 100001 → k + tx_cr S m e r ≤ 99999 →
        b6 d = s → b7 d = ty_ee e → b8 d = ty_zz Z → b9 d = nI (3 - r) → (∀ i, i < d → b10 i = nI (W i)) → ty_ac S g5 g6 L y1 y2 y3 y7 b11 →
        (∀ (n' k' : Nat) (z1 z2 z3 z4 z7 : Int32) (c6 c7 c8 c9 c10 c11 c12 c13 : Nat → Int32), n' + k' = 100001 → k' ≤ k + tx_cr S m e r → ty_fr d b6 b7 b8 b9 b10 c6 c7 c8 c9 c10 → ty_ac S g5 g6 (L ++ tx_tn S K P N q (tx_lv S K P N q m) s e d W r Z) z1 z2 z3 z7 c11 → wX_explore_60 post (ty_b q) n' (nI d + (-1)) (nI k') z1 z2 z3 z4 g5 g6 z7 a1 a2 a3 a4 a5 c6 c7 c8 c9 c10 c11 c12 c13) →
        wX_explore_60 post (ty_b q) n (nI d) (nI k) y1 y2 y3 y4 g5 g6 y7 a1 a2 a3 a4 a5 b6 b7 b8 b9 b10 b11 b12 b13 := by
      intro r
      induction r with
      | zero =>
        intro Z L n k y1 y2 y3 y4 y7 b6 b7 b8 b9 b10 b11 b12 b13 hr hn hk h6 h7 h8 h9 h10 hac H
        have hk' : k + 1 ≤ 99999 := hk
        obtain ⟨n, rfl⟩ : ∃ n', n = n' + 1 := ⟨n - 1, by omega⟩
        exact ty_exA hc he3 (by omega) (by omega) h6 h7 h9 h10 hac (fun z1 z2 z3 z4 z7 c11 c13 h => H n (k + 1) z1 z2 z3 z4 z7 _ _ _ _ _ c11 _ c13 (by omega) (Nat.le_refl _) (fun j _ => ⟨rfl, rfl, rfl, rfl, rfl⟩) h)
      | succ r ihr =>
        intro Z L n k y1 y2 y3 y4 y7 b6 b7 b8 b9 b10 b11 b12 b13 hr hn hk h6 h7 h8 h9 h10 hac H
        have hcr : tx_cr S m e (r + 1) = 1 + tx_ct S m e (2 - r) + tx_cr S m e r := rfl
        rw [hcr] at hk
        have ht : 2 - r < 3 := by omega
        have e9 : 3 - (r + 1) = 2 - r := by omega
        have e9' : 2 - r + 1 = 3 - r := by omega
        rw [e9] at h9
        obtain ⟨n, rfl⟩ : ∃ n', n = n' + 1 := ⟨n - 1, by omega⟩
        by_cases g : tx_en S K P s e (2 - r) = true ∧ Z (2 - r) = false
        · have hlt := tx_en_lt g.1
          have hce := tx_ctE (k := m) hlt
          rw [tx_tnT rfl g.1 g.2] at H
          have hds : d < 9 := by
            rcases (show 2 - r = 0 ∨ 2 - r = 1 ∨ 2 - r = 2 by omega) with z | z | z <;> rw [z] at hlt <;> omega
          refine ty_exC hc he3 (by omega) (by omega) ht h6 h7 h8 h9 g.1 g.2 (fun x8 x12 hx1 hx2 hx3 => ?_)
          refine ih _ (tx_up e (2 - r)) (tx_zs S K P Z e (2 - r)) (d + 1) (tx_ux W d (3 * (2 - r) + e (2 - r))) L n (k + 1) _ _ _ _ _ _ _ _ _ _ _ _ _ (tx_uple hlt he) (by rw [tx_upsum ht]; omega) (by rw [tx_upsum ht]; omega) (by omega) (by omega) pk_us pk_us hx1 pk_us ?_ hac ?_
          · intro i hi
            unfold tx_ux
            by_cases z : i = d
            · rw [z, pk_us, if_pos rfl]
            · rw [pk_un z, if_neg z]
              exact h10 i (by omega)
          · intro n' k' z1 z2 z3 z4 z7 c6 c7 c8 c9 c10 c11 c12 c13 hn' hk' hfr hac'
            rw [pk_m1]
            have fd := hfr d (by omega)
            refine ihr (tx_zt q Z (2 - r)) _ n' k' z1 z2 z3 z4 z7 c6 c7 c8 c9 c10 c11 c12 c13 (by omega) hn' (by omega) ?_ ?_ ?_ ?_ ?_ hac' ?_
            · rw [fd.1, pk_un (by omega)]; exact h6
            · rw [fd.2.1, pk_un (by omega)]; exact h7
            · rw [fd.2.2.1]; exact hx2
            · rw [fd.2.2.2.1, pk_un (by omega), pk_us, e9']
            · intro i hi
              rw [(hfr i (by omega)).2.2.2.2, pk_un (by omega)]
              exact h10 i hi
            · intro n2 k2 w1 w2 w3 w4 w7 d6 d7 d8 d9 d10 d11 d12 d13 hn2 hk2 hfr2 hac2
              refine H n2 k2 w1 w2 w3 w4 w7 d6 d7 d8 d9 d10 d11 d12 d13 hn2 (by omega) (fun j hj => ?_) (by rw [← List.append_assoc]; exact hac2)
              have f1 := hfr j (by omega)
              have f2 := hfr2 j hj
              refine ⟨?_, ?_, ?_, ?_, ?_⟩
              · rw [f2.1, f1.1, pk_un (by omega)]
              · rw [f2.2.1, f1.2.1, pk_un (by omega)]
              · rw [f2.2.2.1, f1.2.2.1, hx3 j hj]
              · rw [f2.2.2.2.1, f1.2.2.2.1, pk_un (by omega), pk_un (by omega)]
              · rw [f2.2.2.2.2, f1.2.2.2.2, pk_un (by omega)]
        · have g' : tx_en S K P s e (2 - r) = false ∨ Z (2 - r) = true := by
            rcases hb : tx_en S K P s e (2 - r) with _ | _
            · exact .inl rfl
            · rcases hz : Z (2 - r) with _ | _
              · exact absurd ⟨hb, hz⟩ g
              · exact .inr rfl
          rw [tx_tnF rfl g'] at H
          refine ty_exB hc he3 (by omega) (by omega) ht h6 h7 h8 h9 g' ?_
          refine ihr Z L n (k + 1) _ _ _ _ _ _ _ _ _ _ _ _ _ (by omega) (by omega) (by omega) h6 h7 h8 (by rw [pk_us, e9']) h10 hac ?_
          intro n' k' z1 z2 z3 z4 z7 c6 c7 c8 c9 c10 c11 c12 c13 hn' hk' hfr hac'
          refine H n' k' z1 z2 z3 z4 z7 c6 c7 c8 c9 c10 c11 c12 c13 hn' (by omega) (fun j hj => ?_) hac'
          have f := hfr j hj
          exact ⟨f.1, f.2.1, f.2.2.1, by rw [f.2.2.2.1, pk_un (by omega)], f.2.2.2.2⟩
    rw [← tx_cr3] at hk H
    exact T 3 Z L n k y1 y2 y3 y4 y7 b6 b7 b8 b9 b10 b11 b12 b13 (Nat.le_refl 3) hn hk h6 h7 h8 h9 h10 hac H
def tx_s0 (a5 : Nat → Int32) : Int32 := ((a5 0) ||| ((a5 1) <<< ((3 : Int32) &&& 31))) ||| ((a5 2) <<< ((6 : Int32) &&& 31))
def tx_LL (S K P N : Nat → Nat) (a5 : Nat → Int32) (q : Bool) : List tx_Lf := tx_lv S K P N q 10 (tx_s0 a5) (fun _ => 0) (fun _ => false) 0 (fun _ => 0)
section
variable {S K P N : Nat → Nat} {g1 g2 g3 g4 g5 g6 g7 : Int32} {a1 a2 a3 a4 a5 a6 a7 a8 a9 a10 a11 a12 a13 : Nat → Int32}
theorem ty_clear {post : St1 → Prop} (H : ∀ b11 b12 b13, (∀ r, r < 512 → b11 r = 0) → post (0, 0, 0, 0, g5, g6, 0, a1, a2, a3, a4, a5, a6, a7, a8, a9, a10, b11, b12, b13)) : wpX_clear post (g1, g2, g3, g4, g5, g6, g7, a1, a2, a3, a4, a5, a6, a7, a8, a9, a10, a11, a12, a13) := by
  refine pk_loop (σ := Nat → Int32) (fun n i x => wX_clear_27 post 0 0 0 0 g5 g6 0 n (nI i) a1 a2 a3 a4 a5 a6 a7 a8 a9 a10 x a12 a13) (fun i x => ∀ r, r < i → x r = 0) 512 0 a11 (by omega) (fun r h => absurd h (by omega)) (fun n x h => ?_) (fun n i x hi h hw => ?_)
  · refine pk_le 512 512 (fun _ => ?_) (fun z => absurd z (by omega))
    refine pk_loop (σ := (Nat → Int32) × (Nat → Int32)) (fun n i y => wX_clear_49 post 0 0 0 0 g5 g6 0 n (nI i) a1 a2 a3 a4 a5 a6 a7 a8 a9 a10 x y.1 y.2) (fun _ _ => True) 3 0 (a12, a13) (by omega) trivial (fun n y _ => ?_) (fun n i y hi _ hw => ?_)
    · exact pk_le 3 3 (fun _ => H x y.1 y.2 h) (fun z => absurd z (by omega))
    · exact pk_le 3 i (fun z => absurd z (by omega)) (fun _ => ⟨pk_in i 3 hi, pk_in i 3 hi, nm_e ⟨pk_in i 3 hi, nm_e (nm_r (nI_1 i) (hw (_, _) trivial))⟩⟩)
  · refine pk_le 512 i (fun z => absurd z (by omega)) (fun _ => ⟨pk_in i 512 hi, nm_e (nm_r (nI_1 i) (hw _ (fun r hr => ?_)))⟩)
    rw [nI_clamp (show i < 2 ^ 31 by omega)]
    by_cases z : r = i
    · rw [z, pk_us]
    · rw [pk_un z]
      exact h r (by omega)
theorem ty_explore {post : St1 → Prop} (hc : ty_cf S K P N a1 a2 a3 a4) (q : Bool)
    (H : ∀ z1 z2 z3 z4 z7 c6 c7 c8 c9 c10 c11 c12 c13, ty_ac S g5 g6 (tx_LL S K P N a5 q) z1 z2 z3 z7 c11 → post (z1, z2, z3, z4, g5, g6, z7, a1, a2, a3, a4, a5, c6, c7, c8, c9, c10, c11, c12, c13)) : wpX_explore post (g1, g2, g3, g4, g5, g6, g7, a1, a2, a3, a4, a5, a6, a7, a8, a9, a10, a11, a12, a13) (ty_b q) := by
  have s0 := hc.1.1 0 (by omega)
  have s1 := hc.1.1 1 (by omega)
  have s2 := hc.1.1 2 (by omega)
  have hcb := tx_cbT (S 0) (by omega) (S 1) (by omega) (S 2) (by omega)
  have hce : tx_ce S 10 (fun _ => 0) = tx_cb 10 (S 0) (S 1) (S 2) := rfl
  unfold wpX_explore
  dsimp only
  refine ty_clear (fun b11 b12 b13 hb => nm_e (nm_e (nm_e (nm_e ⟨100001, ?_⟩))))
  refine ty_sub (q := q) hc 10 (tx_s0 a5) (fun _ => 0) (fun _ => false) 0 (fun _ => 0) [] 100001 0 _ _ _ _ _ _ _ _ _ _ _ _ _ (fun t _ => Nat.zero_le _) rfl (by omega) (by omega) (by omega) pk_us pk_us pk_us pk_us (fun i hi => absurd hi (by omega)) ⟨rfl, rfl, rfl, rfl, fun r hr => hb r hr⟩ ?_
  intro n' k' z1 z2 z3 z4 z7 c6 c7 c8 c9 c10 c11 c12 c13 hn' hk' _ hac
  obtain ⟨n, rfl⟩ : ∃ n, n' = n + 1 := ⟨n' - 1, by omega⟩
  rw [List.nil_append] at hac
  have h := H z1 z2 z3 z4 z7 c6 c7 c8 c9 c10 c11 c12 c13 hac
  exact pk_le 100000 k' (fun _ => h) (fun _ => br_t (by decide) h)
end
end
section
/-! Counts over the leaves; the public methods that the law calls -/
def tx_sm (g : Nat → Nat) : Nat → Nat
  | 0 => 0
  | n + 1 => tx_sm g n + g n
def tx_nz (g : Nat → Nat) : Nat → Nat
  | 0 => 0
  | n + 1 => tx_nz g n + (if 0 < g n then 1 else 0)
theorem tx_nzl (g : Nat → Nat) : ∀ n, tx_nz g n ≤ n := by
  intro n
  induction n with
  | zero => exact Nat.le_refl 0
  | succ n ih =>
    show tx_nz g n + (if 0 < g n then 1 else 0) ≤ n + 1
    by_cases h : 0 < g n
    · rw [if_pos h]; omega
    · rw [if_neg h]; omega
/-- nothing between q and m -/
theorem tx_gap {g : Nat → Nat} {q : Nat} : ∀ m, q ≤ m → (∀ j, q ≤ j → j < m → g j = 0) → tx_nz g m = tx_nz g q ∧ tx_sm g m = tx_sm g q := by
  intro m
  induction m with
  | zero =>
    intro h _
    have : q = 0 := by omega
    subst this
    exact ⟨rfl, rfl⟩
  | succ m ih =>
    intro h hz
    by_cases e : q = m + 1
    · subst e
      exact ⟨rfl, rfl⟩
    · have hm := ih (by omega) (fun j h1 h2 => hz j h1 (by omega))
      have z := hz m (by omega) (by omega)
      refine ⟨?_, ?_⟩
      · show tx_nz g m + (if 0 < g m then 1 else 0) = _
        rw [if_neg (by omega), hm.1, Nat.add_zero]
      · show tx_sm g m + g m = _
        rw [z, hm.2, Nat.add_zero]
theorem tx_nzp {g : Nat → Nat} : ∀ n, 0 < tx_nz g n ↔ ∃ r, r < n ∧ 0 < g r := by
  intro n
  induction n with
  | zero => exact ⟨fun h => absurd h (Nat.lt_irrefl 0), fun ⟨r, h, _⟩ => absurd h (Nat.not_lt_zero r)⟩
  | succ n ih =>
    have E : tx_nz g (n + 1) = tx_nz g n + (if 0 < g n then 1 else 0) := rfl
    rw [E]
    by_cases h : 0 < g n
    · rw [if_pos h]
      exact ⟨fun _ => ⟨n, by omega, h⟩, fun _ => by omega⟩
    · rw [if_neg h, Nat.add_zero, ih]
      refine ⟨fun ⟨r, h1, h2⟩ => ⟨r, by omega, h2⟩, fun ⟨r, h1, h2⟩ => ⟨r, ?_, h2⟩⟩
      by_cases e : r = n
      · subst e
        exact absurd h2 h
      · omega
theorem tx_sma (f g : Nat → Nat) : ∀ n, tx_sm (fun r => f r + g r) n = tx_sm f n + tx_sm g n := by
  intro n
  induction n with
  | zero => rfl
  | succ n ih =>
    show tx_sm (fun r => f r + g r) n + (f n + g n) = (tx_sm f n + f n) + (tx_sm g n + g n)
    rw [ih]
    omega
theorem tx_sm1 (c : Bool) (v : Nat) : ∀ n, tx_sm (fun r => if (c && decide (v = r)) = true then 1 else 0) n = if (c && decide (v < n)) = true then 1 else 0 := by
  intro n
  induction n with
  | zero => cases c <;> rfl
  | succ n ih =>
    show tx_sm _ n + (if (c && decide (v = n)) = true then 1 else 0) = _
    rw [ih]
    cases c with
    | false => rfl
    | true =>
      simp only [Bool.true_and, decide_eq_true_eq]
      by_cases h1 : v < n
      · rw [if_pos h1, if_neg (by omega), if_pos (by omega)]
      · by_cases h2 : v = n
        · rw [if_neg h1, if_pos h2, if_pos (by omega)]
        · rw [if_neg h1, if_neg h2, if_neg (by omega)]
theorem tx_smL (S : Nat → Nat) : ∀ L : List tx_Lf, tx_sm (tx_g S L) 512 + L.countP (fun x => !tx_cm S x) = L.length := by
  intro L
  induction L with
  | nil =>
    have h : ∀ n, tx_sm (tx_g S []) n = 0 := by
      intro n
      induction n with
      | zero => rfl
      | succ n ih =>
        show tx_sm (tx_g S []) n + tx_g S [] n = 0
        rw [ih]
        rfl
    rw [h]
    rfl
  | cons x L ih =>
    have e : tx_g S (x :: L) = fun r => tx_g S L r + (if (tx_cm S x && decide (tx_rs x.2.2 = r)) = true then 1 else 0) := by
      funext r
      unfold tx_g
      rw [List.countP_cons]
    rw [e, tx_sma, tx_sm1, List.countP_cons, List.length_cons, decide_eq_true (tx_rsl x.2.2), Bool.and_true]
    cases tx_cm S x with
    | false =>
      simp only [Bool.not_false, if_true, Bool.false_eq_true, if_false]
      omega
    | true =>
      simp only [Bool.not_true, if_true, Bool.false_eq_true, if_false]
      omega
theorem tx_gle (S : Nat → Nat) (L : List tx_Lf) (r : Nat) : tx_g S L r ≤ L.length := List.countP_le_length
theorem tx_some {S : Nat → Nat} {L : List tx_Lf} : 0 < tx_nz (tx_g S L) 512 ↔ ∃ l, l ∈ L ∧ l.1 = S 0 + S 1 + S 2 := by
  rw [tx_nzp]
  unfold tx_g
  constructor
  · rintro ⟨r, _, h⟩
    obtain ⟨l, h1, h2⟩ := List.countP_pos_iff.mp h
    rw [Bool.and_eq_true] at h2
    exact ⟨l, h1, of_decide_eq_true h2.1⟩
  · rintro ⟨l, h1, h2⟩
    refine ⟨tx_rs l.2.2, tx_rsl _, List.countP_pos_iff.mpr ⟨l, h1, ?_⟩⟩
    rw [Bool.and_eq_true]
    exact ⟨decide_eq_true h2, decide_eq_true rfl⟩
section
variable {S K P N : Nat → Nat} {a1 a2 a3 a4 a5 : Nat → Int32}
theorem tx_Lle (ok : tx_ok S K P N) (q : Bool) : (tx_LL S K P N a5 q).length ≤ 99999 := by
  have s0 := ok.1 0 (by omega)
  have s1 := ok.1 1 (by omega)
  have s2 := ok.1 2 (by omega)
  have hcb := tx_cbT (S 0) (by omega) (S 1) (by omega) (S 2) (by omega)
  have hce : tx_ce S 10 (fun _ => 0) = tx_cb 10 (S 0) (S 1) (S 2) := rfl
  have h := tx_len (S := S) (K := K) (P := P) (N := N) (q := q) 10 (tx_s0 a5) (fun _ => 0) (fun _ => false) 0 (fun _ => 0)
  rw [hce] at h
  exact Nat.le_trans h (by omega)
theorem tx_L1 (ok : tx_ok S K P N) (q : Bool) : 1 ≤ (tx_LL S K P N a5 q).length := by
  have s0 := ok.1 0 (by omega)
  have s1 := ok.1 1 (by omega)
  have s2 := ok.1 2 (by omega)
  exact tx_ne 10 _ _ _ _ _ (fun _ => rfl) (fun t _ => Nat.zero_le _) (show S 0 + S 1 + S 2 < 10 + (0 + 0 + 0) by omega)
theorem tx_L01 : (tx_LL S K P N a5 true).Sublist (tx_LL S K P N a5 false) := tx_sub 10 _ _ _ _ _ _ (fun _ => rfl)
/-- step i of a thread stands ahead of step j > i in some complete run, if there is one at all -/
theorem tx_FA (ok : tx_ok S K P N) {t i j : Nat} (ht : t < 3) (hi : i < j) (hj : j < S t) (h : ∃ l, l ∈ tx_LL S K P N a5 true ∧ l.1 = S 0 + S 1 + S 2) : (tx_LL S K P N a5 false).any (tx_io S (nI (3 * t + i)) (nI (3 * t + j))) = true := by
  obtain ⟨l, h1, h2⟩ := h
  have h1' := tx_L01.subset h1
  rw [List.any_eq_true]
  refine ⟨l, h1', ?_⟩
  have o := tx_lfod ok 10 _ _ _ _ _ h1' rfl (fun t _ => Nat.zero_le _) tx_od0 h2
  unfold tx_io
  rw [Bool.and_eq_true]
  exact ⟨decide_eq_true h2, decide_eq_true ((o t ht j hj).2 i hi _ _)⟩
theorem tx_FN (ok : tx_ok S K P N) {F B : Int32} (h : ¬ ∃ l, l ∈ tx_LL S K P N a5 true ∧ l.1 = S 0 + S 1 + S 2) : (tx_LL S K P N a5 false).any (tx_io S F B) = false := by
  rw [List.any_eq_false]
  intro l hl hio
  unfold tx_io at hio
  rw [Bool.and_eq_true] at hio
  have s0 := ok.1 0 (by omega)
  have s1 := ok.1 1 (by omega)
  have s2 := ok.1 2 (by omega)
  exact h (tx_both ok (by omega) hl (of_decide_eq_true hio.1))
theorem tx_FB (ok : tx_ok S K P N) {t i j : Nat} (ht : t < 3) (hi : i < j) (hj : j < S t) : (tx_LL S K P N a5 false).any (tx_io S (nI (3 * t + j)) (nI (3 * t + i))) = false := by
  rw [List.any_eq_false]
  intro l hl hio
  unfold tx_io at hio
  rw [Bool.and_eq_true] at hio
  have o := tx_lfod ok 10 _ _ _ _ _ hl rfl (fun t _ => Nat.zero_le _) tx_od0 (of_decide_eq_true hio.1)
  have o2 := (o t ht j hj).2 i hi l.1 l.1
  have o3 := of_decide_eq_true hio.2
  omega
end
section
variable {S K P N : Nat → Nat} {g1 g2 g3 g4 g5 g6 g7 : Int32} {a1 a2 a3 a4 a5 a6 a7 a8 a9 a10 a11 a12 a13 : Nat → Int32}
theorem ty_runs {post : Int32 → St1 → Prop} (hc : ty_cf S K P N a1 a2 a3 a4) (H : ∀ (z1 z2 z3 z4 z5 z6 z7 : Int32) (c6 c7 c8 c9 c10 c11 c12 c13 : Nat → Int32), post (nI (tx_LL S K P N a5 false).length) (z1, z2, z3, z4, z5, z6, z7, a1, a2, a3, a4, a5, c6, c7, c8, c9, c10, c11, c12, c13)) : wpX_runs post (g1, g2, g3, g4, g5, g6, g7, a1, a2, a3, a4, a5, a6, a7, a8, a9, a10, a11, a12, a13) := by
  unfold wpX_runs
  dsimp only
  refine ty_explore hc false (fun z1 z2 z3 z4 z7 c6 c7 c8 c9 c10 c11 c12 c13 h => ?_)
  obtain ⟨rfl, _⟩ := h
  exact H _ _ _ _ _ _ _ _ _ _ _ _ _ _ _
theorem ty_kinds {post : Int32 → St1 → Prop} (hc : ty_cf S K P N a1 a2 a3 a4) (H : ∀ (z1 z2 z3 z4 z5 z6 z7 : Int32) (c6 c7 c8 c9 c10 c11 c12 c13 : Nat → Int32), post (nI (tx_LL S K P N a5 true).length) (z1, z2, z3, z4, z5, z6, z7, a1, a2, a3, a4, a5, c6, c7, c8, c9, c10, c11, c12, c13)) : wpX_kinds post (g1, g2, g3, g4, g5, g6, g7, a1, a2, a3, a4, a5, a6, a7, a8, a9, a10, a11, a12, a13) := by
  unfold wpX_kinds
  dsimp only
  refine ty_explore hc true (fun z1 z2 z3 z4 z7 c6 c7 c8 c9 c10 c11 c12 c13 h => ?_)
  obtain ⟨_, rfl, _⟩ := h
  exact H _ _ _ _ _ _ _ _ _ _ _ _ _ _ _
theorem ty_stuck {post : Int32 → St1 → Prop} (hc : ty_cf S K P N a1 a2 a3 a4) (H : ∀ (z1 z2 z3 z4 z5 z6 z7 : Int32) (c6 c7 c8 c9 c10 c11 c12 c13 : Nat → Int32), post (nI ((tx_LL S K P N a5 true).countP (fun x => !tx_cm S x))) (z1, z2, z3, z4, z5, z6, z7, a1, a2, a3, a4, a5, c6, c7, c8, c9, c10, c11, c12, c13)) : wpX_stuckKinds post (g1, g2, g3, g4, g5, g6, g7, a1, a2, a3, a4, a5, a6, a7, a8, a9, a10, a11, a12, a13) := by
  unfold wpX_stuckKinds
  dsimp only
  refine ty_explore hc true (fun z1 z2 z3 z4 z7 c6 c7 c8 c9 c10 c11 c12 c13 h => ?_)
  obtain ⟨_, _, rfl, _⟩ := h
  exact H _ _ _ _ _ _ _ _ _ _ _ _ _ _ _
theorem ty_results {post : Int32 → St1 → Prop} (hc : ty_cf S K P N a1 a2 a3 a4) (H : ∀ (z1 z2 z3 z4 z5 z6 z7 : Int32) (c6 c7 c8 c9 c10 c11 c12 c13 : Nat → Int32), post (nI (tx_nz (tx_g S (tx_LL S K P N a5 true)) 512)) (z1, z2, z3, z4, z5, z6, z7, a1, a2, a3, a4, a5, c6, c7, c8, c9, c10, c11, c12, c13)) : wpX_results post (g1, g2, g3, g4, g5, g6, g7, a1, a2, a3, a4, a5, a6, a7, a8, a9, a10, a11, a12, a13) := by
  unfold wpX_results
  dsimp only
  refine ty_explore hc true (fun z1 z2 z3 z4 z7 c6 c7 c8 c9 c10 c11 c12 c13 h => ?_)
  have h11 := h.2.2.2.2
  have hL := tx_Lle (a5 := a5) hc.1 true
  refine pk_loop (σ := Unit) (fun n i _ => wX_results_9 post z1 z2 z3 z4 g5 g6 z7 a1 a2 a3 a4 a5 c6 c7 c8 c9 c10 c11 c12 c13 n (nI (tx_nz (tx_g S (tx_LL S K P N a5 true)) i)) (nI i)) (fun _ _ => True) 512 0 () (by omega) trivial ?_ ?_
  · intro n _ _
    exact pk_le 512 512 (fun _ => H _ _ _ _ _ _ _ _ _ _ _ _ _ _ _) (fun z => absurd z (by omega))
  · intro n i _ hi _ hw
    have hg := tx_gle S (tx_LL S K P N a5 true) i
    have hw' := hw () trivial
    have E : tx_nz (tx_g S (tx_LL S K P N a5 true)) (i + 1) = tx_nz (tx_g S (tx_LL S K P N a5 true)) i + (if 0 < tx_g S (tx_LL S K P N a5 true) i then 1 else 0) := rfl
    rw [E] at hw'
    refine pk_le 512 i (fun z => absurd z (by omega)) (fun _ => ⟨pk_in i 512 hi, ?_⟩)
    rw [nI_clamp (show i < 2 ^ 31 by omega), h11 i hi]
    refine pk_le (tx_g S (tx_LL S K P N a5 true) i) 0 (fun z => ?_) (fun z => ?_)
    · rw [if_neg (by omega)] at hw'
      exact nm_r (nI_add _ 0) (nm_r (nI_1 i) hw')
    · rw [if_pos z] at hw'
      exact nm_r (nI_1 _) (nm_r (nI_1 i) hw')
theorem ty_m1 {i q : Nat} (hi : i < 2 ^ 31) (hq : q < 2 ^ 31) : nI i ≤ nI q + (-1) ↔ i < q := by
  cases q with
  | zero =>
    refine ⟨fun h => ?_, fun h => absurd h (Nat.not_lt_zero _)⟩
    have h' : nI i ≤ (-1 : Int32) := h
    rw [Int32.le_iff_toInt_le, nI_toInt hi] at h'
    have : (-1 : Int32).toInt = -1 := by decide
    omega
  | succ q =>
    rw [pk_m1, nI_leI hi (by omega)]
    omega
theorem ty_m2 {q : Nat} (hq : q < 2 ^ 31) : (-1 : Int32) ≤ nI q + (-1) := by
  cases q with
  | zero => decide
  | succ q =>
    rw [pk_m1, Int32.le_iff_toInt_le, nI_toInt (by omega)]
    have : (-1 : Int32).toInt = -1 := by decide
    omega
theorem ty_nextR {post : Int32 → St1 → Prop} (hc : ty_cf S K P N a1 a2 a3 a4) {q : Nat} (hq : q ≤ 512)
    (H1 : ∀ r, q ≤ r → r < 512 → 0 < tx_g S (tx_LL S K P N a5 true) r → (∀ j, q ≤ j → j < r → tx_g S (tx_LL S K P N a5 true) j = 0) → ∀ (z1 z2 z3 z4 z5 z6 z7 : Int32) (c6 c7 c8 c9 c10 c11 c12 c13 : Nat → Int32), post (nI r) (z1, z2, z3, z4, z5, z6, z7, a1, a2, a3, a4, a5, c6, c7, c8, c9, c10, c11, c12, c13))
    (H0 : (∀ j, q ≤ j → j < 512 → tx_g S (tx_LL S K P N a5 true) j = 0) → ∀ (z1 z2 z3 z4 z5 z6 z7 : Int32) (c6 c7 c8 c9 c10 c11 c12 c13 : Nat → Int32), post (-1) (z1, z2, z3, z4, z5, z6, z7, a1, a2, a3, a4, a5, c6, c7, c8, c9, c10, c11, c12, c13)) : wpX_nextResult post (g1, g2, g3, g4, g5, g6, g7, a1, a2, a3, a4, a5, a6, a7, a8, a9, a10, a11, a12, a13) (nI q + (-1)) := by
  unfold wpX_nextResult
  dsimp only
  refine ty_explore hc true (fun z1 z2 z3 z4 z7 c6 c7 c8 c9 c10 c11 c12 c13 h => br_t (ty_m2 (by omega)) ?_)
  have h11 := h.2.2.2.2
  have hL := tx_Lle (a5 := a5) hc.1 true
  refine pk_loop (σ := Unit) (fun n i _ => wX_nextResult_18 post (nI q + (-1)) z1 z2 z3 z4 g5 g6 z7 a1 a2 a3 a4 a5 c6 c7 c8 c9 c10 c11 c12 c13 n (nI i)) (fun i _ => ∀ j, q ≤ j → j < i → tx_g S (tx_LL S K P N a5 true) j = 0) 512 0 () (by omega) (fun j _ h => absurd h (Nat.not_lt_zero _)) ?_ ?_
  · intro n _ hI
    exact pk_le 512 512 (fun _ => H0 hI _ _ _ _ _ _ _ _ _ _ _ _ _ _ _) (fun z => absurd z (by omega))
  · intro n i _ hi hI hw
    have hg := tx_gle S (tx_LL S K P N a5 true) i
    refine pk_le 512 i (fun z => absurd z (by omega)) (fun _ => ?_)
    refine br_c (fun z => nm_r (nI_1 i) (hw () (fun j h1 h2 => ?_))) (fun z => ⟨pk_in i 512 hi, ?_⟩)
    · have z' := (ty_m1 (by omega) (by omega)).mp z
      exact absurd h1 (by omega)
    · have z' : q ≤ i := by
        rcases Nat.lt_or_ge i q with g | g
        · exact absurd ((ty_m1 (by omega) (by omega)).mpr g) z
        · exact g
      rw [nI_clamp (show i < 2 ^ 31 by omega), h11 i hi]
      refine pk_le (tx_g S (tx_LL S K P N a5 true) i) 0 (fun y => nm_r (nI_1 i) (hw () (fun j h1 h2 => ?_))) (fun y => H1 i z' hi y hI _ _ _ _ _ _ _ _ _ _ _ _ _ _ _)
      by_cases e : j = i
      · subst e
        omega
      · exact hI j h1 (by omega)
theorem ty_kindsOf {post : Int32 → St1 → Prop} (hc : ty_cf S K P N a1 a2 a3 a4) {r : Nat} (hr : r < 512) (H : ∀ (z1 z2 z3 z4 z5 z6 z7 : Int32) (c6 c7 c8 c9 c10 c11 c12 c13 : Nat → Int32), post (nI (tx_g S (tx_LL S K P N a5 true) r)) (z1, z2, z3, z4, z5, z6, z7, a1, a2, a3, a4, a5, c6, c7, c8, c9, c10, c11, c12, c13)) : wpX_kindsOf post (g1, g2, g3, g4, g5, g6, g7, a1, a2, a3, a4, a5, a6, a7, a8, a9, a10, a11, a12, a13) (nI r) := by
  unfold wpX_kindsOf
  dsimp only
  refine br_f (nI_pos (by omega)) (pk_le r 511 (fun _ => ?_) (fun z => absurd z (by omega)))
  refine ty_explore hc true (fun z1 z2 z3 z4 z7 c6 c7 c8 c9 c10 c11 c12 c13 h => ⟨pk_in r 512 hr, ?_⟩)
  dsimp only
  rw [nI_clamp (show r < 2 ^ 31 by omega), h.2.2.2.2 r hr]
  exact H _ _ _ _ _ _ _ _ _ _ _ _ _ _ _
theorem ty_isT {post : Int32 → Prop} {x : Int32} (h0 : post 0) (h1 : ∀ t, t < 3 → x = nI t → post 1) : wpX_isThread post () x := by
  unfold wpX_isThread
  refine br_c (fun _ => h0) (fun g => br_c (fun _ => h0) (fun g' => ?_))
  rcases pk_ix x (n := 3) (by decide) with h | h | ⟨j, hj, e⟩
  · exact absurd h g
  · exact absurd h g'
  · exact h1 j hj e
theorem ty_isTt {post : Int32 → Prop} {t : Nat} (ht : t < 3) (h1 : post 1) : wpX_isThread post () (nI t) := by
  unfold wpX_isThread
  exact br_f (nI_pos (by omega)) (pk_le 3 t (fun z => absurd z (by omega)) (fun _ => h1))
theorem ty_steps {post : Int32 → Prop} (hc : ty_cf S K P N a1 a2 a3 a4) {t : Nat} (ht : t < 3) (H : post (nI (S t))) : wpX_steps post (g1, g2, g3, g4, g5, g6, g7, a1, a2, a3, a4, a5, a6, a7, a8, a9, a10, a11, a12, a13) (nI t) := by
  unfold wpX_steps
  dsimp only
  refine ty_isTt ht (br_f (by decide) ⟨pk_in t 3 ht, ?_⟩)
  rw [nI_clamp (show t < 2 ^ 31 by omega), hc.2.1 t ht]
  exact H
theorem ty_before {post : Int32 → St1 → Prop} (hc : ty_cf S K P N a1 a2 a3 a4) {t i j : Nat} (ht : t < 3) (hi : i < S t) (hj : j < S t) (hne : i ≠ j)
    (H : ∀ (z1 z2 z3 z4 z5 z6 z7 : Int32) (c6 c7 c8 c9 c10 c11 c12 c13 : Nat → Int32), post (ty_b ((tx_LL S K P N a5 false).any (tx_io S (nI (3 * t + i)) (nI (3 * t + j))))) (z1, z2, z3, z4, z5, z6, z7, a1, a2, a3, a4, a5, c6, c7, c8, c9, c10, c11, c12, c13)) : wpX_before post (g1, g2, g3, g4, g5, g6, g7, a1, a2, a3, a4, a5, a6, a7, a8, a9, a10, a11, a12, a13) (nI (4 * t + i)) (nI (4 * t + j)) := by
  have hS := hc.1.1 t ht
  unfold wpX_before
  dsimp only
  unfold wpX_refused
  dsimp only
  have sh : ∀ m, m < 3 → nI (4 * t + m) >>> ((2 : Int32) &&& 31) = nI t := by
    intro m hm
    rw [pk_shrN (show 4 * t + m < 2 ^ 31 by omega) _ 2 (by decide)]
    exact congrArg nI (by omega)
  have an : ∀ m, m < 3 → nI (4 * t + m) &&& 3 = nI m := by
    intro m hm
    rw [pk_andN (show 4 * t + m < 2 ^ 32 by omega) 2 (by decide)]
    exact congrArg nI (by omega)
  rw [an i (by omega), an j (by omega)]
  refine nm_r (sh i (by omega)) (nm_r (sh j (by omega)) (br_f (nI_pos (by omega)) (br_f (nI_pos (by omega)) (ty_isTt ht (br_f (by decide) (ty_isTt ht (br_f (by decide) ⟨pk_in t 3 ht, ?_⟩)))))))
  rw [nI_clamp (show t < 2 ^ 31 by omega), hc.2.1 t ht]
  refine pk_le (S t) i (fun z => absurd z (by omega)) (fun _ => ⟨pk_in t 3 ht, pk_lt j (S t) (fun _ => ?_) (fun z => absurd z (by omega))⟩)
  refine nm_r (ty_3m t i) (nm_r (ty_3m t j) (pk_eq (4 * t + i) (4 * t + j) (fun z => absurd z (by omega)) (fun _ => br_t (by decide) ?_)))
  refine ty_explore hc false (fun z1 z2 z3 z4 z7 c6 c7 c8 c9 c10 c11 c12 c13 h => ?_)
  obtain ⟨_, _, _, rfl, _⟩ := h
  cases hb : (tx_LL S K P N a5 false).any (tx_io S (nI (3 * t + i)) (nI (3 * t + j))) with
  | false =>
    rw [hb] at H
    exact br_t rfl (H _ _ _ _ _ _ _ _ _ _ _ _ _ _ _)
  | true =>
    rw [hb] at H
    exact br_f (show ¬ ty_b true = 0 by decide) (H _ _ _ _ _ _ _ _ _ _ _ _ _ _ _)
end
end
section
/-! The law's check of one object -/
section
variable {S K P N : Nat → Nat} {a1 a2 a3 a4 a5 : Nat → Int32}
theorem ty_4m (t k : Nat) : (4 : Int32) * nI t + nI k = nI (4 * t + k) := by
  rw [show (4 : Int32) = nI 4 from rfl, pk_mul, nI_add]
theorem ty_181 {post : Int32 → St1 → Prop} (hc : ty_cf S K P N a1 a2 a3 a4) {t j : Nat} (ht : t < 3) (hj : j < S t) {x9 : Int32} {v : Nat} (hv : v < 2 ^ 31) (hvv : 0 < v ↔ ∃ l, l ∈ tx_LL S K P N a5 true ∧ l.1 = S 0 + S 1 + S 2) {J : Int32 → Int32 → Int32 → Int32 → Int32 → Int32 → Int32 → Int32 → (Nat → Int32) → (Nat → Int32) → (Nat → Int32) → (Nat → Int32) → (Nat → Int32) → (Nat → Int32) → (Nat → Int32) → (Nat → Int32) → (Nat → Int32) → (Nat → Int32) → (Nat → Int32) → (Nat → Int32) → (Nat → Int32) → Prop}
    (hJ : ∀ (z1 z2 z3 z4 z5 z6 z7 : Int32) (c6 c7 c8 c9 c10 c11 c12 c13 : Nat → Int32), J (nI (j + 1)) z1 z2 z3 z4 z5 z6 z7 a1 a2 a3 a4 a5 c6 c7 c8 c9 c10 c11 c12 c13) : ∀ (n i : Nat) (z1 z2 z3 z4 z5 z6 z7 : Int32) (c6 c7 c8 c9 c10 c11 c12 c13 : Nat → Int32), i ≤ j → j < n + i → wL_holds_181 post J (nI t) (nI v) x9 (nI j) n (nI i) z1 z2 z3 z4 z5 z6 z7 a1 a2 a3 a4 a5 c6 c7 c8 c9 c10 c11 c12 c13 := by
  have hS := hc.1.1 t ht
  intro n
  induction n with
  | zero => intro i z1 z2 z3 z4 z5 z6 z7 c6 c7 c8 c9 c10 c11 c12 c13 h1 h2; exact absurd h2 (by omega)
  | succ n ih =>
    intro i z1 z2 z3 z4 z5 z6 z7 c6 c7 c8 c9 c10 c11 c12 c13 h1 h2
    refine pk_le j i (fun g => nm_r (nI_1 j) (hJ _ _ _ _ _ _ _ _ _ _ _ _ _ _ _)) (fun g => ?_)
    rw [ty_4m, ty_4m]
    refine ty_before hc ht (by omega) hj (by omega) (fun y1 y2 y3 y4 y5 y6 y7 d6 d7 d8 d9 d10 d11 d12 d13 => ?_)
    have last : ∀ b : Bool, (tx_LL S K P N a5 false).any (tx_io S (nI (3 * t + i)) (nI (3 * t + j))) = b → wL_holds_215 post J (wL_holds_181 post J (nI t) (nI v) x9 (nI j) n) (nI t) (nI v) x9 (nI j) (nI i) (ty_b b) (ty_b ((tx_LL S K P N a5 false).any (tx_io S (nI (3 * t + i)) (nI (3 * t + j))))) y1 y2 y3 y4 y5 y6 y7 a1 a2 a3 a4 a5 d6 d7 d8 d9 d10 d11 d12 d13 := by
      intro b hb
      rw [hb]
      unfold wL_holds_215
      rw [ty_4m, ty_4m]
      refine br_t rfl (ty_before hc ht hj (by omega) (by omega) (fun w1 w2 w3 w4 w5 w6 w7 e6 e7 e8 e9 e10 e11 e12 e13 => ?_))
      rw [tx_FB hc.1 ht g hj]
      exact br_t rfl (nm_r (nI_1 i) (ih (i + 1) _ _ _ _ _ _ _ _ _ _ _ _ _ _ _ (by omega) (by omega)))
    refine pk_lt v 1 (fun z => last false (tx_FN hc.1 (fun h => ?_))) (fun z => last true (tx_FA hc.1 ht g hj (hvv.mp (by omega))))
    have := hvv.mpr h
    omega
theorem ty_171 {post : Int32 → St1 → Prop} (hc : ty_cf S K P N a1 a2 a3 a4) {t : Nat} (ht : t < 3) {v : Nat} (hv : v < 2 ^ 31) (hvv : 0 < v ↔ ∃ l, l ∈ tx_LL S K P N a5 true ∧ l.1 = S 0 + S 1 + S 2)
    (H : ∀ (z1 z2 z3 z4 z5 z6 z7 : Int32) (c6 c7 c8 c9 c10 c11 c12 c13 : Nat → Int32), post 1 (z1, z2, z3, z4, z5, z6, z7, a1, a2, a3, a4, a5, c6, c7, c8, c9, c10, c11, c12, c13)) : ∀ (n j : Nat) (z1 z2 z3 z4 z5 z6 z7 : Int32) (c6 c7 c8 c9 c10 c11 c12 c13 : Nat → Int32), j ≤ S t → S t < n + j → wL_holds_171 post (nI t) (nI v) (nI (S t)) n (nI j) z1 z2 z3 z4 z5 z6 z7 a1 a2 a3 a4 a5 c6 c7 c8 c9 c10 c11 c12 c13 := by
  have hS := hc.1.1 t ht
  intro n
  induction n with
  | zero => intro j z1 z2 z3 z4 z5 z6 z7 c6 c7 c8 c9 c10 c11 c12 c13 h1 h2; exact absurd h2 (by omega)
  | succ n ih =>
    intro j z1 z2 z3 z4 z5 z6 z7 c6 c7 c8 c9 c10 c11 c12 c13 h1 h2
    refine pk_le (S t) j (fun g => H _ _ _ _ _ _ _ _ _ _ _ _ _ _ _) (fun g => ⟨j + 1, ?_⟩)
    exact ty_181 hc ht g hv hvv (fun z1 z2 z3 z4 z5 z6 z7 c6 c7 c8 c9 c10 c11 c12 c13 => ih (j + 1) _ _ _ _ _ _ _ _ _ _ _ _ _ _ _ (by omega) (by omega)) (j + 1) 0 _ _ _ _ _ _ _ _ _ _ _ _ _ _ _ (by omega) (by omega)
theorem ty_141 {post : Int32 → St1 → Prop} (hc : ty_cf S K P N a1 a2 a3 a4) {t : Nat} (ht : t < 3) (H : ∀ (z1 z2 z3 z4 z5 z6 z7 : Int32) (c6 c7 c8 c9 c10 c11 c12 c13 : Nat → Int32), post 1 (z1, z2, z3, z4, z5, z6, z7, a1, a2, a3, a4, a5, c6, c7, c8, c9, c10, c11, c12, c13)) (z1 z2 z3 z4 z5 z6 z7 : Int32) (c6 c7 c8 c9 c10 c11 c12 c13 : Nat → Int32) :
    wL_holds_141 post (nI t) (nI (tx_LL S K P N a5 true).length) (nI (tx_sm (tx_g S (tx_LL S K P N a5 true)) 512)) (nI (tx_nz (tx_g S (tx_LL S K P N a5 true)) 512)) (nI (tx_nz (tx_g S (tx_LL S K P N a5 true)) 512)) z1 z2 z3 z4 z5 z6 z7 a1 a2 a3 a4 a5 c6 c7 c8 c9 c10 c11 c12 c13 := by
  have hS := hc.1.1 t ht
  have hnz := tx_nzl (tx_g S (tx_LL S K P N a5 true)) 512
  unfold wL_holds_141
  refine br_t rfl (ty_stuck hc (fun z1 z2 z3 z4 z5 z6 z7 c6 c7 c8 c9 c10 c11 c12 c13 => br_t ?_ (ty_steps hc ht ⟨S t + 1, ?_⟩)))
  · rw [nI_add, tx_smL]
  · exact ty_171 hc ht (by omega) tx_some H (S t + 1) 0 _ _ _ _ _ _ _ _ _ _ _ _ _ _ _ (by omega) (by omega)
theorem ty_47 {post : Int32 → St1 → Prop} (hc : ty_cf S K P N a1 a2 a3 a4) {t : Nat} (ht : t < 3) (H : ∀ (z1 z2 z3 z4 z5 z6 z7 : Int32) (c6 c7 c8 c9 c10 c11 c12 c13 : Nat → Int32), post 1 (z1, z2, z3, z4, z5, z6, z7, a1, a2, a3, a4, a5, c6, c7, c8, c9, c10, c11, c12, c13)) : ∀ (n q : Nat) (x8 : Int32) (z1 z2 z3 z4 z5 z6 z7 : Int32) (c6 c7 c8 c9 c10 c11 c12 c13 : Nat → Int32), q ≤ 512 → 512 < n + q →
    ((∃ r, q ≤ r ∧ r < 512 ∧ 0 < tx_g S (tx_LL S K P N a5 true) r ∧ (∀ j, q ≤ j → j < r → tx_g S (tx_LL S K P N a5 true) j = 0) ∧ x8 = nI r) ∨ ((∀ j, q ≤ j → j < 512 → tx_g S (tx_LL S K P N a5 true) j = 0) ∧ x8 = -1)) →
    wL_holds_47 post (nI t) (nI (tx_LL S K P N a5 true).length) (nI (tx_nz (tx_g S (tx_LL S K P N a5 true)) 512)) n (nI (tx_sm (tx_g S (tx_LL S K P N a5 true)) q)) (nI (tx_nz (tx_g S (tx_LL S K P N a5 true)) q)) (nI q + (-1)) x8 (nI (tx_nz (tx_g S (tx_LL S K P N a5 true)) q)) z1 z2 z3 z4 z5 z6 z7 a1 a2 a3 a4 a5 c6 c7 c8 c9 c10 c11 c12 c13 := by
  have hL := tx_Lle (a5 := a5) hc.1 true
  intro n
  induction n with
  | zero => intro q x8 z1 z2 z3 z4 z5 z6 z7 c6 c7 c8 c9 c10 c11 c12 c13 h1 h2; exact absurd h2 (by omega)
  | succ n ih =>
    intro q x8 z1 z2 z3 z4 z5 z6 z7 c6 c7 c8 c9 c10 c11 c12 c13 h1 h2 hx
    have hnz := tx_nzl (tx_g S (tx_LL S K P N a5 true)) q
    refine pk_le 512 (tx_nz (tx_g S (tx_LL S K P N a5 true)) q) (fun g => ?_) (fun g => ?_)
    · have hq : q = 512 := by omega
      subst hq
      exact ty_141 hc ht H _ _ _ _ _ _ _ _ _ _ _ _ _ _ _
    · rcases hx with ⟨r, r1, r2, r3, r4, rfl⟩ | ⟨r4, rfl⟩
      · have hg := tx_gle S (tx_LL S K P N a5 true) r
        have hgap := tx_gap r r1 r4
        have e1 : nI (tx_sm (tx_g S (tx_LL S K P N a5 true)) q) + nI (tx_g S (tx_LL S K P N a5 true) r) = nI (tx_sm (tx_g S (tx_LL S K P N a5 true)) (r + 1)) := by
          rw [nI_add, ← hgap.2]
          rfl
        have e2 : nI (tx_nz (tx_g S (tx_LL S K P N a5 true)) q) + 1 = nI (tx_nz (tx_g S (tx_LL S K P N a5 true)) (r + 1)) := by
          rw [nI_1, ← hgap.1]
          show _ = nI (tx_nz (tx_g S (tx_LL S K P N a5 true)) r + (if 0 < tx_g S (tx_LL S K P N a5 true) r then 1 else 0))
          rw [if_pos r3]
        have F : ∀ (z1 z2 z3 z4 z5 z6 z7 : Int32) (c6 c7 c8 c9 c10 c11 c12 c13 : Nat → Int32), wL_holds_109 post (wL_holds_47 post (nI t) (nI (tx_LL S K P N a5 true).length) (nI (tx_nz (tx_g S (tx_LL S K P N a5 true)) 512)) n) (nI t) (nI (tx_LL S K P N a5 true).length) (nI (tx_sm (tx_g S (tx_LL S K P N a5 true)) q)) (nI (tx_nz (tx_g S (tx_LL S K P N a5 true)) q)) (nI (tx_nz (tx_g S (tx_LL S K P N a5 true)) 512)) (nI r) (nI (tx_nz (tx_g S (tx_LL S K P N a5 true)) q)) z1 z2 z3 z4 z5 z6 z7 a1 a2 a3 a4 a5 c6 c7 c8 c9 c10 c11 c12 c13 := by
          intro z1 z2 z3 z4 z5 z6 z7 c6 c7 c8 c9 c10 c11 c12 c13
          unfold wL_holds_109
          refine ty_kindsOf hc r2 (fun z1 z2 z3 z4 z5 z6 z7 c6 c7 c8 c9 c10 c11 c12 c13 => nm_r e1 (nm_r e2 ?_))
          dsimp only
          have G : ∀ (x8 : Int32) (z1 z2 z3 z4 z5 z6 z7 : Int32) (c6 c7 c8 c9 c10 c11 c12 c13 : Nat → Int32), ((∃ s, r + 1 ≤ s ∧ s < 512 ∧ 0 < tx_g S (tx_LL S K P N a5 true) s ∧ (∀ j, r + 1 ≤ j → j < s → tx_g S (tx_LL S K P N a5 true) j = 0) ∧ x8 = nI s) ∨ ((∀ j, r + 1 ≤ j → j < 512 → tx_g S (tx_LL S K P N a5 true) j = 0) ∧ x8 = -1)) → wL_holds_47 post (nI t) (nI (tx_LL S K P N a5 true).length) (nI (tx_nz (tx_g S (tx_LL S K P N a5 true)) 512)) n (nI (tx_sm (tx_g S (tx_LL S K P N a5 true)) (r + 1))) (nI (tx_nz (tx_g S (tx_LL S K P N a5 true)) (r + 1))) (nI r) x8 (nI (tx_nz (tx_g S (tx_LL S K P N a5 true)) (r + 1))) z1 z2 z3 z4 z5 z6 z7 a1 a2 a3 a4 a5 c6 c7 c8 c9 c10 c11 c12 c13 := by
            intro x8 z1 z2 z3 z4 z5 z6 z7 c6 c7 c8 c9 c10 c11 c12 c13 h
            have := ih (r + 1) x8 z1 z2 z3 z4 z5 z6 z7 c6 c7 c8 c9 c10 c11 c12 c13 (by omega) (by omega) h
            rw [pk_m1] at this
            exact this
          have R := ty_nextR (post := fun r_444 u => match u with | (w1, w2, w3, w4, w5, w6, w7, b1, b2, b3, b4, b5, b6, b7, b8, b9, b10, b11, b12, b13) => ∀ x9_491 : Int32, x9_491 = nI (tx_nz (tx_g S (tx_LL S K P N a5 true)) q) + 1 → wL_holds_47 post (nI t) (nI (tx_LL S K P N a5 true).length) (nI (tx_nz (tx_g S (tx_LL S K P N a5 true)) 512)) n (nI (tx_sm (tx_g S (tx_LL S K P N a5 true)) (r + 1))) (nI (tx_nz (tx_g S (tx_LL S K P N a5 true)) (r + 1))) (nI r) r_444 x9_491 w1 w2 w3 w4 w5 w6 w7 b1 b2 b3 b4 b5 b6 b7 b8 b9 b10 b11 b12 b13) (g1 := z1) (g2 := z2) (g3 := z3) (g4 := z4) (g5 := z5) (g6 := z6) (g7 := z7) (a6 := c6) (a7 := c7) (a8 := c8) (a9 := c9) (a10 := c10) (a11 := c11) (a12 := c12) (a13 := c13) hc (q := r + 1) (by omega)
            (fun s s1 s2 s3 s4 z1 z2 z3 z4 z5 z6 z7 c6 c7 c8 c9 c10 c11 c12 c13 => nm_r e2 (G _ _ _ _ _ _ _ _ _ _ _ _ _ _ _ _ (.inl ⟨s, s1, s2, s3, s4, rfl⟩)))
            (fun s4 z1 z2 z3 z4 z5 z6 z7 c6 c7 c8 c9 c10 c11 c12 c13 => nm_r e2 (G _ _ _ _ _ _ _ _ _ _ _ _ _ _ _ _ (.inr ⟨s4, rfl⟩)))
          rw [pk_m1] at R
          exact R
        have e3 : nI q + (-1) + 1 = nI q := by
          rw [Int32.add_assoc, show (-1 : Int32) + 1 = 0 by decide, Int32.add_zero]
        refine br_f (nI_pos (by omega)) (br_f (fun z => ?_) (pk_lt 511 r (fun z => absurd z (by omega)) (fun _ => ?_)))
        · have := (ty_m1 (by omega) (by omega)).mp z
          omega
        · refine ty_kindsOf hc r2 (fun z1 z2 z3 z4 z5 z6 z7 c6 c7 c8 c9 c10 c11 c12 c13 => ?_)
          dsimp only
          rw [e3]
          refine pk_le 1 (tx_g S (tx_LL S K P N a5 true) r) (fun _ => pk_le r q (fun _ => F _ _ _ _ _ _ _ _ _ _ _ _ _ _ _) (fun z => ?_)) (fun z => absurd z (by omega))
          have e4 : nI r - 1 = nI (r - 1) := pk_sub (a := r) (b := 1) (by omega)
          rw [e4]
          refine ty_kindsOf hc (by omega) (fun z1 z2 z3 z4 z5 z6 z7 c6 c7 c8 c9 c10 c11 c12 c13 => ?_)
          rw [r4 (r - 1) (by omega) (by omega)]
          exact br_t rfl (F _ _ _ _ _ _ _ _ _ _ _ _ _ _ _)
      · refine br_t (by decide) ?_
        have hgap := tx_gap 512 h1 r4
        rw [← hgap.1, ← hgap.2]
        exact ty_141 hc ht H _ _ _ _ _ _ _ _ _ _ _ _ _ _ _
end
theorem ty_holds {S K P N : Nat → Nat} {g1 g2 g3 g4 g5 g6 g7 : Int32} {a1 a2 a3 a4 a5 a6 a7 a8 a9 a10 a11 a12 a13 : Nat → Int32} {post : Int32 → St1 → Prop} (hc : ty_cf S K P N a1 a2 a3 a4) {t : Nat} (ht : t < 3) (H : ∀ (z1 z2 z3 z4 z5 z6 z7 : Int32) (c6 c7 c8 c9 c10 c11 c12 c13 : Nat → Int32), post 1 (z1, z2, z3, z4, z5, z6, z7, a1, a2, a3, a4, a5, c6, c7, c8, c9, c10, c11, c12, c13)) : wpL_holds post (g1, g2, g3, g4, g5, g6, g7, a1, a2, a3, a4, a5, a6, a7, a8, a9, a10, a11, a12, a13) (nI t) := by
  have hL0 := tx_Lle (a5 := a5) hc.1 false
  have hL1 := tx_Lle (a5 := a5) hc.1 true
  have h1 := tx_L1 (a5 := a5) hc.1 true
  have h01 := (tx_L01 (S := S) (K := K) (P := P) (N := N) (a5 := a5)).length_le
  unfold wpL_holds
  dsimp only
  refine ty_runs hc (fun z1 z2 z3 z4 z5 z6 z7 c6 c7 c8 c9 c10 c11 c12 c13 => ?_)
  refine ty_kinds hc (fun z1 z2 z3 z4 z5 z6 z7 c6 c7 c8 c9 c10 c11 c12 c13 => ?_)
  refine pk_lt (tx_LL S K P N a5 true).length 1 (fun z => absurd z (by omega)) (fun _ => pk_le (tx_LL S K P N a5 true).length (tx_LL S K P N a5 false).length (fun _ => ?_) (fun z => absurd z (by omega)))
  refine ty_results hc (fun z1 z2 z3 z4 z5 z6 z7 c6 c7 c8 c9 c10 c11 c12 c13 => ?_)
  refine ty_nextR (q := 0) hc (by omega) (fun r r1 r2 r3 r4 z1 z2 z3 z4 z5 z6 z7 c6 c7 c8 c9 c10 c11 c12 c13 => ⟨513, ?_⟩) (fun r4 z1 z2 z3 z4 z5 z6 z7 c6 c7 c8 c9 c10 c11 c12 c13 => ⟨513, ?_⟩)
  · exact ty_47 hc ht H 513 0 (nI r) _ _ _ _ _ _ _ _ _ _ _ _ _ _ _ (by omega) (by omega) (.inl ⟨r, r1, r2, r3, r4, rfl⟩)
  · exact ty_47 hc ht H 513 0 (-1) _ _ _ _ _ _ _ _ _ _ _ _ _ _ _ (by omega) (by omega) (.inr ⟨r4, rfl⟩)
end
section
/-! The calls that change an object, and the law -/
def ty_C (a1 a2 a3 a4 : Nat → Int32) : Prop := ∃ S K P N, ty_cf S K P N a1 a2 a3 a4
theorem ty_C0 : ty_C (fun _ => 0) (fun _ => 0) (fun _ => 0) (fun _ => 0) := ⟨fun _ => 0, fun _ => 0, fun _ => 0, fun _ => 0, ⟨fun _ _ => Nat.zero_le _, fun _ _ => ⟨Nat.zero_le _, Nat.zero_le _, Nat.zero_le _⟩⟩, fun _ _ => rfl, fun _ _ => ⟨rfl, rfl, rfl⟩⟩
theorem ty_ups {a : Nat → Int32} {F : Nat → Nat} {c v n : Nat} {x : Int32} (hx : x = nI v) (h : ∀ j, j < n → a j = nI (F j)) : ∀ j, j < n → upd a c x j = nI (tx_ux F c v j) := by
  intro j hj
  unfold tx_ux
  by_cases e : j = c
  · rw [e, pk_us, if_pos rfl, hx]
  · rw [pk_un e, if_neg e]
    exact h j hj
theorem ty_uxl {F : Nat → Nat} {c v m n : Nat} (hv : v ≤ m) (h : ∀ j, j < n → F j ≤ m) : ∀ j, j < n → tx_ux F c v j ≤ m := by
  intro j hj
  unfold tx_ux
  by_cases e : j = c
  · rw [if_pos e]; exact hv
  · rw [if_neg e]; exact h j hj
section
variable {g1 g2 g3 g4 g5 g6 g7 : Int32} {a1 a2 a3 a4 a5 a6 a7 a8 a9 a10 a11 a12 a13 : Nat → Int32}
theorem ty_51 {post : Int32 → St1 → Prop} (hc : ty_C a1 a2 a3 a4) {t o l : Nat} (ht : t < 3) (ho : o ≤ 5) (hl : l ≤ 2) {x3 : Int32}
    (H : ∀ r b1 b2 b3 b4, ty_C b1 b2 b3 b4 → post r (g1, g2, g3, g4, g5, g6, g7, b1, b2, b3, b4, a5, a6, a7, a8, a9, a10, a11, a12, a13)) : wX_step_51 post (nI t) x3 (nI o) (nI l) g1 g2 g3 g4 g5 g6 g7 a1 a2 a3 a4 a5 a6 a7 a8 a9 a10 a11 a12 a13 := by
  unfold wX_step_51
  obtain ⟨S, K, P, N, ok, h1, h2⟩ := hc
  have hS := ok.1 t ht
  refine br_c (fun _ => H _ _ _ _ _ ⟨S, K, P, N, ok, h1, h2⟩) (fun g => br_c (fun g' => ⟨pk_in t 3 ht, ?_⟩) (fun _ => H _ _ _ _ _ ⟨S, K, P, N, ok, h1, h2⟩))
  obtain ⟨m, hm, rfl⟩ := nI_of2 (n := 7) (by decide) g g'
  rw [nI_clamp (show t < 2 ^ 31 by omega), h1 t ht]
  refine pk_eq (S t) 3 (fun _ => H _ _ _ _ _ ⟨S, K, P, N, ok, h1, h2⟩) (fun z => ⟨pk_in t 3 ht, nm_r (ty_3m t (S t)) ?_⟩)
  rw [nI_clamp (show 3 * t + S t < 2 ^ 31 by omega)]
  refine ⟨pk_in (3 * t + S t) 9 (by omega), nm_e ⟨pk_in (3 * t + S t) 9 (by omega), nm_e ⟨pk_in (3 * t + S t) 9 (by omega), nm_e ⟨pk_in t 3 ht, pk_in t 3 ht, nm_e ⟨pk_in t 3 ht, H _ _ _ _ _ ⟨tx_ux S t (S t + 1), tx_ux K (3 * t + S t) o, tx_ux P (3 * t + S t) l, tx_ux N (3 * t + S t) m, ⟨?_, ?_⟩, ?_, ?_⟩⟩⟩⟩⟩⟩
  · exact ty_uxl (by omega) ok.1
  · exact fun c hc => ⟨ty_uxl ho (fun j hj => (ok.2 j hj).1) c hc, ty_uxl hl (fun j hj => (ok.2 j hj).2.1) c hc, ty_uxl hm (fun j hj => (ok.2 j hj).2.2) c hc⟩
  · exact ty_ups (nI_1 _) h1
  · exact fun c hc => ⟨ty_ups rfl (fun j hj => (h2 j hj).1) c hc, ty_ups rfl (fun j hj => (h2 j hj).2.1) c hc, ty_ups rfl (fun j hj => (h2 j hj).2.2) c hc⟩
theorem ty_step {post : Int32 → St1 → Prop} (hc : ty_C a1 a2 a3 a4) {p0 p1 p2 : Int32}
    (H : ∀ r b1 b2 b3 b4, ty_C b1 b2 b3 b4 → post r (g1, g2, g3, g4, g5, g6, g7, b1, b2, b3, b4, a5, a6, a7, a8, a9, a10, a11, a12, a13)) : wpX_step post (g1, g2, g3, g4, g5, g6, g7, a1, a2, a3, a4, a5, a6, a7, a8, a9, a10, a11, a12, a13) p0 p1 p2 := by
  unfold wpX_step
  dsimp only
  refine ty_isT (br_t rfl (H _ _ _ _ _ hc)) (fun t ht e => br_f (by decide) ?_)
  subst e
  refine nm_e (nm_e (br_c (fun _ => H _ _ _ _ _ hc) (fun g => br_c (fun _ => H _ _ _ _ _ hc) (fun g1 => br_c (fun _ => H _ _ _ _ _ hc) (fun g2 => ?_)))))
  obtain ⟨m, hm, rfl⟩ := nI_of g
  rw [pk_shrN hm _ 3 (by decide)] at g1 ⊢
  rw [pk_andN (show m < 2 ^ 32 by omega) 3 (by decide)] at g2 ⊢
  have o5 : m / 2 ^ 3 ≤ 5 := by
    rcases Nat.lt_or_ge 5 (m / 2 ^ 3) with z | z
    · exact absurd (nI_lt z (by omega)) g1
    · exact z
  have l2 : m % 2 ^ 3 ≤ 2 := by
    rcases Nat.lt_or_ge 2 (m % 2 ^ 3) with z | z
    · exact absurd (nI_lt z (by omega)) g2
    · exact z
  exact br_c (fun _ => ty_51 hc ht o5 l2 H) (fun _ => br_c (fun _ => ty_51 hc ht o5 l2 H) (fun _ => H _ _ _ _ _ hc))
theorem ty_drop {post : Int32 → St1 → Prop} (hc : ty_C a1 a2 a3 a4) {p0 : Int32}
    (H : ∀ r b1 b2 b3 b4, ty_C b1 b2 b3 b4 → post r (g1, g2, g3, g4, g5, g6, g7, b1, b2, b3, b4, a5, a6, a7, a8, a9, a10, a11, a12, a13)) : wpX_drop post (g1, g2, g3, g4, g5, g6, g7, a1, a2, a3, a4, a5, a6, a7, a8, a9, a10, a11, a12, a13) p0 := by
  unfold wpX_drop
  dsimp only
  refine ty_isT (br_t rfl (H _ _ _ _ _ hc)) (fun t ht e => br_f (by decide) ⟨?_, ?_⟩)
  · rw [e]; exact pk_in t 3 ht
  subst e
  obtain ⟨S, K, P, N, ok, h1, h2⟩ := hc
  have hS := ok.1 t ht
  rw [nI_clamp (show t < 2 ^ 31 by omega), h1 t ht]
  refine pk_eq (S t) 0 (fun _ => H _ _ _ _ _ ⟨S, K, P, N, ok, h1, h2⟩) (fun z => ⟨pk_in t 3 ht, pk_in t 3 ht, nm_e ⟨pk_in t 3 ht, H _ _ _ _ _ ⟨tx_ux S t (S t - 1), K, P, N, ⟨ty_uxl (by omega) ok.1, ok.2⟩, ty_ups ?_ h1, h2⟩⟩⟩)
  exact pk_sub (a := S t) (b := 1) (by omega)
theorem ty_init {post : Int32 → St1 → Prop} {p0 p1 : Int32} (H : ∀ r b5, post r (g1, g2, g3, g4, g5, g6, g7, a1, a2, a3, a4, b5, a6, a7, a8, a9, a10, a11, a12, a13)) : wpX_initial post (g1, g2, g3, g4, g5, g6, g7, a1, a2, a3, a4, a5, a6, a7, a8, a9, a10, a11, a12, a13) p0 p1 := by
  unfold wpX_initial
  dsimp only
  refine ty_isT (br_t rfl (H _ _)) (fun t ht e => br_f (by decide) ?_)
  subst e
  exact br_c (fun _ => H _ _) (fun _ => br_c (fun _ => ⟨pk_in t 3 ht, nm_e ⟨pk_in t 3 ht, nm_e (H _ _)⟩⟩) (fun _ => H _ _))
theorem ty_rem (x : Int32) : ∃ t, t < 3 ∧ (x &&& 3) - (x &&& 3) / 3 * 3 = nI t := by
  obtain ⟨j, hj, e⟩ := pk_andE x (m := 3) 2 (by decide)
  refine ⟨j % 3, Nat.mod_lt _ (by decide), ?_⟩
  rw [e]
  exact pk_rem (by omega) (by decide) (by decide)
theorem ty_167 {L : Nat} {xs : Nat → Int32} {kc ks : Nat} {k : Nat} {x3 : Int32} {J : Int32 → Int32 → Int32 → Int32 → Int32 → Int32 → Int32 → Int32 → (Nat → Int32) → (Nat → Int32) → (Nat → Int32) → (Nat → Int32) → (Nat → Int32) → (Nat → Int32) → (Nat → Int32) → (Nat → Int32) → (Nat → Int32) → (Nat → Int32) → (Nat → Int32) → (Nat → Int32) → (Nat → Int32) → Prop} (hc : ty_C a1 a2 a3 a4)
    (hJ : ∀ (g1 g2 g3 g4 g5 g6 g7 : Int32) (a1 a2 a3 a4 a5 a6 a7 a8 a9 a10 a11 a12 a13 : Nat → Int32), ty_C a1 a2 a3 a4 → J (nI (k + 2)) g1 g2 g3 g4 g5 g6 g7 a1 a2 a3 a4 a5 a6 a7 a8 a9 a10 a11 a12 a13) : wL_law_167 (fun r => r = 1) L xs J (nI k) x3 kc ks g1 g2 g3 g4 g5 g6 g7 a1 a2 a3 a4 a5 a6 a7 a8 a9 a10 a11 a12 a13 := by
  unfold wL_law_167
  refine br_c (fun _ => ⟨by decide, ?_⟩) (fun _ => nm_r (nI_add k 2) (hJ _ _ _ _ _ _ _ _ _ _ _ _ _ _ _ _ _ _ _ _ hc))
  obtain ⟨t, ht, e⟩ := ty_rem (x3 >>> ((7 : Int32) &&& 31))
  rw [e]
  have hc' := hc
  obtain ⟨S, K, P, N, h⟩ := hc
  exact ty_holds h ht (fun z1 z2 z3 z4 z5 z6 z7 c6 c7 c8 c9 c10 c11 c12 c13 => br_f (by decide) (nm_r (nI_add k 2) (hJ _ _ _ _ _ _ _ _ _ _ _ _ _ _ _ _ _ _ _ _ hc')))
theorem ty_64 {L : Nat} {xs : Nat → Int32} {kc ks : Nat} {k : Nat} {x3 x4 x5 x6 z0 : Int32} {J : Int32 → Int32 → Int32 → Int32 → Int32 → Int32 → Int32 → Int32 → (Nat → Int32) → (Nat → Int32) → (Nat → Int32) → (Nat → Int32) → (Nat → Int32) → (Nat → Int32) → (Nat → Int32) → (Nat → Int32) → (Nat → Int32) → (Nat → Int32) → (Nat → Int32) → (Nat → Int32) → (Nat → Int32) → Prop} (hc : ty_C a1 a2 a3 a4)
    (hJ : ∀ (g1 g2 g3 g4 g5 g6 g7 : Int32) (a1 a2 a3 a4 a5 a6 a7 a8 a9 a10 a11 a12 a13 : Nat → Int32), ty_C a1 a2 a3 a4 → J (nI (k + 2)) g1 g2 g3 g4 g5 g6 g7 a1 a2 a3 a4 a5 a6 a7 a8 a9 a10 a11 a12 a13) : wL_law_64 (fun r => r = 1) L xs J (nI k) x3 x4 x5 x6 z0 kc ks g1 g2 g3 g4 g5 g6 g7 a1 a2 a3 a4 a5 a6 a7 a8 a9 a10 a11 a12 a13 := by
  unfold wL_law_64
  refine br_c (fun _ => br_c (fun _ => ty_init (fun r b5 => ty_167 hc hJ)) (fun _ => ty_drop hc (fun r b1 b2 b3 b4 h => ty_167 h hJ))) (fun _ => br_c (fun _ => ?_) (fun _ => ?_))
  · unfold wL_law_114
    exact ty_step hc (fun r b1 b2 b3 b4 h => ty_167 h hJ)
  · unfold wL_law_114
    exact ty_step hc (fun r b1 b2 b3 b4 h => ty_167 h hJ)
end
theorem ty_cell {post : Int32 → Prop} {L : Nat} {xs : Nat → Int32} {k : Nat} (hL : L ≤ 260) (hk : k < 300) (H : ∀ v, post v) : wpL_cell post L xs () (nI k) := by
  unfold wpL_cell
  exact pk_le L k (fun _ => H _) (fun h => ⟨pk_in k L h, H _⟩)
theorem ty_law {L : Nat} {xs : Nat → Int32} (hL : L ≤ 260) {kc ks : Nat} : ∀ (n k : Nat) (g1 g2 g3 g4 g5 g6 g7 : Int32) (a1 a2 a3 a4 a5 a6 a7 a8 a9 a10 a11 a12 a13 : Nat → Int32), ty_C a1 a2 a3 a4 → k ≤ L + 1 → L + 2 ≤ n + k → wL_law_10 (fun r => r = 1) L xs kc ks n (nI k) g1 g2 g3 g4 g5 g6 g7 a1 a2 a3 a4 a5 a6 a7 a8 a9 a10 a11 a12 a13 := by
  intro n
  induction n with
  | zero => intro k g1 g2 g3 g4 g5 g6 g7 a1 a2 a3 a4 a5 a6 a7 a8 a9 a10 a11 a12 a13 hc h1 h2; exact absurd h2 (by omega)
  | succ n ih =>
    intro k g1 g2 g3 g4 g5 g6 g7 a1 a2 a3 a4 a5 a6 a7 a8 a9 a10 a11 a12 a13 hc h1 h2
    refine pk_le L k (fun _ => ?_) (fun g => ?_)
    · obtain ⟨S, K, P, N, h⟩ := hc
      exact ty_holds (t := 0) h (by omega) (fun z1 z2 z3 z4 z5 z6 z7 c6 c7 c8 c9 c10 c11 c12 c13 => rfl)
    · have hJ : ∀ (g1 g2 g3 g4 g5 g6 g7 : Int32) (a1 a2 a3 a4 a5 a6 a7 a8 a9 a10 a11 a12 a13 : Nat → Int32), ty_C a1 a2 a3 a4 → wL_law_10 (fun r => r = 1) L xs kc ks n (nI (k + 2)) g1 g2 g3 g4 g5 g6 g7 a1 a2 a3 a4 a5 a6 a7 a8 a9 a10 a11 a12 a13 := fun _ _ _ _ _ _ _ _ _ _ _ _ _ _ _ _ _ _ _ _ h => ih (k + 2) _ _ _ _ _ _ _ _ _ _ _ _ _ _ _ _ _ _ _ _ h (by omega) (by omega)
      rw [nI_1]
      refine ty_cell hL (by omega) (fun c => ty_cell hL (by omega) (fun d => nm_e ⟨by decide, nm_e (br_c (fun _ => ty_64 hc hJ) (fun _ => ty_64 hc hJ))⟩))
/-! ===== what is owed ===== -/
theorem i_vc (xs : Nat → Int32) (L : Nat) (hL : L ≤ 260) : wpL_law (fun r => r = 1) L xs := by
  unfold wpL_law
  refine ⟨13, 605, by omega, by omega, ?_⟩
  unfold wpX_init
  dsimp only
  refine ⟨by omega, by omega, by omega, by omega, by omega, by omega, by omega, by omega, by omega, by omega, by omega, by omega, by omega, by omega, by omega, by omega, by omega, by omega, by omega, by omega, by omega, by omega, by omega, by omega, by omega, by omega, ⟨L + 2, ?_⟩⟩
  exact ty_law hL (L + 2) 0 _ _ _ _ _ _ _ _ _ _ _ _ _ _ _ _ _ _ _ _ ty_C0 (by omega) (by omega)
end
