section
def bt (x : Int32) (i : Nat) : Bool := x.toBitVec.getLsbD i
theorem b_ext {x y : Int32} (h : ∀ i, i < 32 → bt x i = bt y i) : x = y := Int32.toBitVec_inj.mp (BitVec.eq_of_getLsbD_eq (fun i hi => h i hi))
theorem b_or (x y : Int32) (i : Nat) : bt (x ||| y) i = (bt x i || bt y i) := by unfold bt; rw [Int32.toBitVec_or, BitVec.getLsbD_or]
theorem b_and (x y : Int32) (i : Nat) : bt (x &&& y) i = (bt x i && bt y i) := by unfold bt; rw [Int32.toBitVec_and, BitVec.getLsbD_and]
theorem s_l : ∀ n, n < 32 → ((nI n &&& 31).toBitVec.smod 32).toNat = n := by decide +kernel
theorem b_sshr (n : Nat) (hn : n < 32) (x : Int32) {i : Nat} (hi : i < 32) : bt (x >>> (nI n &&& 31)) i = if n + i < 32 then bt x (n + i) else bt x 31 := by
  unfold bt
  rw [Int32.toBitVec_shiftRight]
  show (x.toBitVec.sshiftRight ((nI n &&& 31).toBitVec.smod 32).toNat).getLsbD i = _
  rw [s_l n hn, BitVec.getLsbD_sshiftRight, BitVec.msb_eq_getLsbD_last]
  simp [hi]
theorem sl_one1 : ∀ i, i < 32 → bt 1 i = decide (i = 0) := by decide +kernel
theorem sl_and1 (y : Int32) : (y &&& 1 = 1) ↔ bt y 0 = true := by
  constructor
  · intro h
    have h2 : bt (y &&& 1) 0 = bt 1 0 := by rw [h]
    rw [b_and, sl_one1 0 (by decide)] at h2
    simpa using h2
  · intro h
    apply b_ext
    intro i hi
    rw [b_and, sl_one1 i hi]
    by_cases e : i = 0
    · subst e
      simp [h]
    · simp [e]
/-- bit m of x, as the class asks for it -/
def sl_bit (x : Int32) (m : Nat) : Prop := (x >>> (nI m &&& 31)) &&& 1 = 1
theorem sl_bit_bt {x : Int32} {m : Nat} (hm : m < 32) : sl_bit x m ↔ bt x m = true := by
  unfold sl_bit
  rw [sl_and1, b_sshr m hm x (by decide : 0 < 32)]
  simp [hm]
theorem sl_bit_or {x y : Int32} {m : Nat} (hm : m < 32) : sl_bit (x ||| y) m ↔ sl_bit x m ∨ sl_bit y m := by
  rw [sl_bit_bt hm, sl_bit_bt hm, sl_bit_bt hm, b_or]
  simp
theorem sl_bit_0 {m : Nat} (hm : m < 32) : ¬ sl_bit 0 m := by
  rw [sl_bit_bt hm]
  unfold bt
  simp
theorem sl_bit_one' : ∀ i, i < 28 → ∀ m, m < 28 → (((((1 : Int32) <<< (nI i &&& 31)) >>> (nI m &&& 31)) &&& 1 = 1) ↔ m = i) := by decide +kernel
theorem sl_bit_one {i m : Nat} (hi : i < 28) (hm : m < 28) : sl_bit ((1 : Int32) <<< (nI i &&& 31)) m ↔ m = i := sl_bit_one' i hi m hm
theorem sl_inj {a b : Nat} (ha : a < 1000) (hb : b < 1000) (h : nI a = nI b) : a = b := (nI_eq (by omega) (by omega)).mp h
theorem sl_m1 : ((-1 : Int32)) < 0 := by decide
theorem sl_m1n {n : Nat} (h : n < 2 ^ 31) : ¬ nI n = -1 := fun e => nI_pos h (by rw [e]; exact sl_m1)
/-! ===== the pure picture of a schedule ===== -/
/-- operation n is in use: an instruction, or a load put forward -/
def sl_us (c : Nat) (a1 : Nat → Int32) (n : Nat) : Prop := n < c ∨ (14 ≤ n ∧ n - 14 < c ∧ a1 (n - 14) = 3)
def sl_rk (n : Nat) : Nat := if n < 14 then 2 * n + 1 else 2 * (n - 14)
def sl_beh (a1 a2 a3 a4 : Nat → Int32) (i j : Nat) : Prop := ¬ a1 i < 3 ∨ ¬ a1 j < 3 ∨ a2 i = a2 j ∨ a3 j = a2 i ∨ a4 j = a2 i ∨ a3 i = a2 j ∨ a4 i = a2 j
theorem sl_us_s {j n : Nat} {a1 : Nat → Int32} : sl_us (j + 1) a1 n ↔ sl_us j a1 n ∨ n = j ∨ (n = 14 + j ∧ a1 j = 3) := by
  unfold sl_us
  constructor
  · rintro (h | ⟨h1, h2, h3⟩)
    · rcases Nat.lt_or_ge n j with z | z
      · exact .inl (.inl z)
      · exact .inr (.inl (by omega))
    · rcases Nat.lt_or_ge (n - 14) j with z | z
      · exact .inl (.inr ⟨h1, z, h3⟩)
      · have e : n - 14 = j := by omega
        rw [e] at h3
        exact .inr (.inr ⟨by omega, h3⟩)
  · rintro ((h | ⟨h1, h2, h3⟩) | h | ⟨h, h3⟩)
    · exact .inl (by omega)
    · exact .inr ⟨h1, by omega, h3⟩
    · exact .inl (by omega)
    · subst h
      exact .inr ⟨by omega, by omega, by rw [Nat.add_sub_cancel_left]; exact h3⟩
theorem sl_us_m {j n : Nat} {a1 : Nat → Int32} (h : sl_us j a1 n) : sl_us (j + 1) a1 n := sl_us_s.mpr (.inl h)
theorem sl_us_n {j : Nat} {a1 : Nat → Int32} (hj : j < 14) : ¬ sl_us j a1 j := by
  rintro (h | ⟨h, _⟩) <;> omega
theorem sl_us_n2 {j : Nat} {a1 : Nat → Int32} (hj : j < 14) : ¬ sl_us j a1 (14 + j) := by
  rintro (h | ⟨_, h, _⟩) <;> omega
/-- what orderAll has made of the first j instructions -/
def sl_Ord (j : Nat) (a1 a2 a3 a4 a9 a10 a14 : Nat → Int32) : Prop :=
  (∀ n, n < 28 → (a9 n = 0 ↔ ¬ sl_us j a1 n)) ∧
  (∀ n m, n < 28 → m < 28 → sl_bit (a10 n) m → sl_us j a1 n ∧ sl_us j a1 m ∧ sl_rk m < sl_rk n) ∧
  (∀ i k, i < k → k < j → sl_beh a1 a2 a3 a4 i k → sl_bit (a10 k) i) ∧
  (∀ k, k < j → a1 k = 3 → a14 k = -1 ∨ ∃ w, w < 14 ∧ a14 k = nI w)
/-- the inner loop of orderAll, at i -/
def sl_In (j i : Nat) (a1 a2 a3 a4 a10 s : Nat → Int32) : Prop :=
  (∀ n, n ≠ j → s n = a10 n) ∧ (∀ m, m < 28 → sl_bit (s j) m → m < i) ∧ (∀ k, k < i → sl_beh a1 a2 a3 a4 k j → sl_bit (s j) k)
theorem sl_in_0 {j : Nat} {a1 a2 a3 a4 a9 a10 a14 : Nat → Int32} (hj : j < 14) (h : sl_Ord j a1 a2 a3 a4 a9 a10 a14) : sl_In j 0 a1 a2 a3 a4 a10 a10 :=
  ⟨fun _ _ => rfl, fun m hm hb => absurd (h.2.1 j m (by omega) hm hb).1 (sl_us_n hj), fun k hk => absurd hk (by omega)⟩
theorem sl_in_f {j i : Nat} {a1 a2 a3 a4 a10 s : Nat → Int32} (h : sl_In j i a1 a2 a3 a4 a10 s) (hb : ¬ sl_beh a1 a2 a3 a4 i j) : sl_In j (i + 1) a1 a2 a3 a4 a10 s := by
  refine ⟨h.1, fun m hm g => Nat.lt_succ_of_lt (h.2.1 m hm g), fun k hk g => ?_⟩
  rcases Nat.lt_or_ge k i with z | z
  · exact h.2.2 k z g
  · have e : k = i := by omega
    subst e
    exact absurd g hb
theorem sl_in_t {j i : Nat} {a1 a2 a3 a4 a10 s : Nat → Int32} (hj : j < 14) (hi : i < j) (h : sl_In j i a1 a2 a3 a4 a10 s) : sl_In j (i + 1) a1 a2 a3 a4 a10 (upd s j (s j ||| ((1 : Int32) <<< (nI i &&& 31)))) := by
  refine ⟨fun n hn => by rw [pk_un hn]; exact h.1 n hn, fun m hm g => ?_, fun k hk g => ?_⟩
  · rw [pk_us, sl_bit_or (by omega), sl_bit_one (by omega) hm] at g
    rcases g with g | g
    · exact Nat.lt_succ_of_lt (h.2.1 m hm g)
    · omega
  · rw [pk_us, sl_bit_or (by omega), sl_bit_one (by omega) (by omega)]
    rcases Nat.lt_or_ge k i with z | z
    · exact .inl (h.2.2 k z g)
    · exact .inr (by omega)
theorem sl_rk_lt {m j : Nat} (hj : j < 14) (h : m < j) : sl_rk m < sl_rk j := by
  unfold sl_rk
  rw [if_pos (by omega), if_pos hj]
  omega
theorem sl_ord_a {j : Nat} {a1 a2 a3 a4 a9 a10 a14 s : Nat → Int32} (hj : j < 14) (h : sl_Ord j a1 a2 a3 a4 a9 a10 a14) (g : sl_In j j a1 a2 a3 a4 a10 s) (hk : ¬ a1 j = 3) :
    sl_Ord (j + 1) a1 a2 a3 a4 (upd a9 j 1) s a14 := by
  obtain ⟨h1, h2, h3, h4⟩ := h
  obtain ⟨g1, g2, g3⟩ := g
  refine ⟨fun n hn => ?_, fun n m hn hm hb => ?_, fun i k hik hkj hb => ?_, fun k hkj e => ?_⟩
  · rw [sl_us_s]
    by_cases e : n = j
    · subst e
      rw [pk_us]
      exact ⟨fun z => absurd z (by decide), fun z => absurd (.inr (.inl rfl)) z⟩
    · rw [pk_un e, h1 n hn]
      exact ⟨fun z y => y.elim z (fun y => y.elim e (fun y => hk y.2)), fun z y => z (.inl y)⟩
  · by_cases e : n = j
    · subst e
      have l := g2 m hm hb
      exact ⟨sl_us_s.mpr (.inr (.inl rfl)), .inl (by omega), sl_rk_lt hj l⟩
    · rw [g1 n e] at hb
      obtain ⟨x, y, z⟩ := h2 n m hn hm hb
      exact ⟨sl_us_m x, sl_us_m y, z⟩
  · by_cases e : k = j
    · subst e
      exact g3 i hik hb
    · rw [g1 k e]
      exact h3 i k hik (by omega) hb
  · by_cases e2 : k = j
    · subst e2
      exact absurd e hk
    · exact h4 k (by omega) e
theorem sl_ord_b {j : Nat} {a1 a2 a3 a4 a9 a10 a14 s b10 b14 : Nat → Int32} (hj : j < 14) (h : sl_Ord j a1 a2 a3 a4 a9 a10 a14) (g : sl_In j j a1 a2 a3 a4 a10 s) (hk : a1 j = 3)
    (p1 : ∀ n, n ≠ j → n ≠ 14 + j → b10 n = s n) (p2 : b10 j = s j ||| ((1 : Int32) <<< (nI (14 + j) &&& 31)))
    (p3 : b10 (14 + j) = s (14 + j) ∨ (∃ w, w < j ∧ a1 w = 3 ∧ b10 (14 + j) = (1 : Int32) <<< (nI (14 + w) &&& 31)) ∨ (∃ w, w < j ∧ b10 (14 + j) = (1 : Int32) <<< (nI w &&& 31)))
    (p4 : ∀ n, n ≠ j → b14 n = a14 n) (p5 : b14 j = -1 ∨ ∃ w, w < 14 ∧ b14 j = nI w) :
    sl_Ord (j + 1) a1 a2 a3 a4 (upd (upd a9 j 1) (14 + j) 1) b10 b14 := by
  obtain ⟨h1, h2, h3, h4⟩ := h
  obtain ⟨g1, g2, g3⟩ := g
  have uj : sl_us (j + 1) a1 j := sl_us_s.mpr (.inr (.inl rfl))
  have uj2 : sl_us (j + 1) a1 (14 + j) := sl_us_s.mpr (.inr (.inr ⟨rfl, hk⟩))
  have r1 : sl_rk j = 2 * j + 1 := by unfold sl_rk; rw [if_pos hj]
  have r2 : sl_rk (14 + j) = 2 * j := by unfold sl_rk; rw [if_neg (by omega)]; omega
  refine ⟨fun n hn => ?_, fun n m hn hm hb => ?_, fun i k hik hkj hb => ?_, fun k hkj e => ?_⟩
  · by_cases e2 : n = 14 + j
    · subst e2
      rw [pk_us]
      exact ⟨fun z => absurd z (by decide), fun z => absurd uj2 z⟩
    · by_cases e : n = j
      · subst e
        rw [pk_un e2, pk_us]
        exact ⟨fun z => absurd z (by decide), fun z => absurd uj z⟩
      · rw [pk_un e2, pk_un e, h1 n hn, sl_us_s]
        exact ⟨fun z y => y.elim z (fun y => y.elim e (fun y => e2 y.1)), fun z y => z (.inl y)⟩
  · by_cases e2 : n = 14 + j
    · subst e2
      rcases p3 with p3 | ⟨w, hw, hw3, p3⟩ | ⟨w, hw, p3⟩
      · rw [p3, g1 _ (by omega)] at hb
        exact absurd (h2 _ m hn hm hb).1 (sl_us_n2 hj)
      · rw [p3, sl_bit_one (by omega) hm] at hb
        subst hb
        refine ⟨uj2, .inr ⟨by omega, by omega, by rw [Nat.add_sub_cancel_left]; exact hw3⟩, ?_⟩
        rw [r2]
        unfold sl_rk
        rw [if_neg (by omega)]
        omega
      · rw [p3, sl_bit_one (by omega) hm] at hb
        subst hb
        refine ⟨uj2, .inl (by omega), ?_⟩
        rw [r2]
        unfold sl_rk
        rw [if_pos (by omega)]
        omega
    · by_cases e : n = j
      · subst e
        rw [p2, sl_bit_or (by omega), sl_bit_one (by omega) hm] at hb
        rcases hb with hb | hb
        · have l := g2 m hm hb
          exact ⟨uj, .inl (by omega), sl_rk_lt hj l⟩
        · subst hb
          exact ⟨uj, uj2, by omega⟩
      · rw [p1 n e e2, g1 n e] at hb
        obtain ⟨x, y, z⟩ := h2 n m hn hm hb
        exact ⟨sl_us_m x, sl_us_m y, z⟩
  · by_cases e : k = j
    · subst e
      rw [p2, sl_bit_or (by omega)]
      exact .inl (g3 i hik hb)
    · rw [p1 k e (by omega), g1 k e]
      exact h3 i k hik (by omega) hb
  · by_cases e2 : k = j
    · subst e2
      exact p5
    · rw [p4 k e2]
      exact h4 k (by omega) e
end
section
def sl_lat (m : Nat) : Nat := if m < 14 then 1 else 3
theorem sl_lat_le (m : Nat) : sl_lat m ≤ 3 := by
  unfold sl_lat
  split <;> omega
/-- operation n may be issued in cycle q -/
def sl_may (a9 a10 a12 : Nat → Int32) (q n : Nat) : Prop :=
  a9 n ≠ 0 ∧ a12 n < 0 ∧ ∀ m, m < 28 → sl_bit (a10 n) m → ¬ a12 m < 0 ∧ ¬ nI q < a12 m + nI (sl_lat m)
/-- how many below n have been issued -/
def sl_cnt (a : Nat → Int32) : Nat → Nat
  | 0 => 0
  | n + 1 => sl_cnt a n + (if a n < 0 then 0 else 1)
theorem sl_cnt_le (a : Nat → Int32) (n : Nat) : sl_cnt a n ≤ n := by
  induction n with
  | zero => exact Nat.le_refl 0
  | succ n ih =>
    show sl_cnt a n + (if a n < 0 then 0 else 1) ≤ n + 1
    split <;> omega
theorem sl_cnt_lo {a : Nat → Int32} {b : Nat} {x : Int32} (n : Nat) (hb : n ≤ b) : sl_cnt (upd a b x) n = sl_cnt a n := by
  induction n with
  | zero => rfl
  | succ n ih =>
    show sl_cnt (upd a b x) n + (if upd a b x n < 0 then 0 else 1) = sl_cnt a n + (if a n < 0 then 0 else 1)
    rw [ih (by omega), pk_un (by omega)]
theorem sl_cnt_up {a : Nat → Int32} {b : Nat} {x : Int32} (ha : a b < 0) (hx : ¬ x < 0) (n : Nat) (hb : b < n) : sl_cnt (upd a b x) n = sl_cnt a n + 1 := by
  induction n with
  | zero => omega
  | succ n ih =>
    show sl_cnt (upd a b x) n + (if upd a b x n < 0 then 0 else 1) = sl_cnt a n + (if a n < 0 then 0 else 1) + 1
    by_cases e : n = b
    · subst e
      rw [sl_cnt_lo n (Nat.le_refl n), pk_us, if_neg hx, if_pos ha]
    · rw [ih (by omega), pk_un e]
      omega
theorem sl_cnt_m1 {a : Nat → Int32} (n : Nat) (h : ∀ k, k < n → a k = -1) : sl_cnt a n = 0 := by
  induction n with
  | zero => rfl
  | succ n ih =>
    show sl_cnt a n + (if a n < 0 then 0 else 1) = 0
    rw [ih (fun k hk => h k (by omega)), if_pos (by rw [h n (by omega)]; exact sl_m1)]
/-- what has been issued so far -/
def sl_C (a9 a10 : Nat → Int32) (N : Nat) (a12 a13 : Nat → Int32) : Prop :=
  sl_cnt a12 28 = N ∧
  (∀ n, n < 28 → a12 n = -1 ∨ (a9 n ≠ 0 ∧ ∃ t, a12 n = nI t ∧ t < 100 ∧ t + 3 ≤ 3 * N)) ∧
  (∀ k, k < N → ∃ o, o < 28 ∧ a13 k = nI o ∧ ¬ a12 o < 0) ∧
  (∀ o, o < 28 → ¬ a12 o < 0 → ∃ k, k < N ∧ a13 k = nI o) ∧
  (∀ k k', k < N → k' < N → a13 k = a13 k' → k = k') ∧
  (∀ k o, k < N → o < 28 → a13 k = nI o → ∀ m, m < 28 → sl_bit (a10 o) m → ∃ k', k' < k ∧ a13 k' = nI m)
theorem sl_C_0 {a9 a10 a12 a13 : Nat → Int32} (h : ∀ k, k < 28 → a12 k = -1) : sl_C a9 a10 0 a12 a13 :=
  ⟨sl_cnt_m1 28 h, fun n hn => .inl (h n hn), fun k hk => absurd hk (by omega), fun o ho z => absurd (by rw [h o ho]; exact sl_m1) z,
    fun k _ hk => absurd hk (by omega), fun k _ hk => absurd hk (by omega)⟩
theorem sl_C_lt {a9 a10 a12 a13 : Nat → Int32} {N q b : Nat} (h : sl_C a9 a10 N a12 a13) (hb : b < 28) (hm : sl_may a9 a10 a12 q b) : N < 28 := by
  have h1 := sl_cnt_up (x := 0) hm.2.1 (by decide) 28 hb
  have h2 := sl_cnt_le (upd a12 b 0) 28
  have h3 := h.1
  omega
theorem sl_C_add {a9 a10 a12 a13 : Nat → Int32} {N q b : Nat} (h : sl_C a9 a10 N a12 a13) (hb : b < 28) (hm : sl_may a9 a10 a12 q b) (hq : q < 100) (hx : q ≤ 3 * N) :
    sl_C a9 a10 (N + 1) (upd a12 b (nI q)) (upd a13 N (nI b)) := by
  have hN := sl_C_lt h hb hm
  obtain ⟨h1, h2, h3, h4, h5, h6⟩ := h
  obtain ⟨m1, m2, m3⟩ := hm
  have nq : ¬ nI q < 0 := nI_pos (by omega)
  refine ⟨?_, fun n hn => ?_, fun k hk => ?_, fun o ho g => ?_, fun k k' hk hk' g => ?_, fun k o hk ho g m hm hb2 => ?_⟩
  · rw [sl_cnt_up m2 nq 28 hb, h1]
  · by_cases e : n = b
    · subst e
      rw [pk_us]
      exact .inr ⟨m1, q, rfl, hq, by omega⟩
    · rw [pk_un e]
      rcases h2 n hn with z | ⟨z, t, z1, z2, z3⟩
      · exact .inl z
      · exact .inr ⟨z, t, z1, z2, by omega⟩
  · by_cases e : k = N
    · subst e
      rw [pk_us]
      exact ⟨b, hb, rfl, by rw [pk_us]; exact nq⟩
    · rw [pk_un e]
      obtain ⟨o, ho, e1, e2⟩ := h3 k (by omega)
      refine ⟨o, ho, e1, ?_⟩
      by_cases eo : o = b
      · rw [eo, pk_us]
        exact nq
      · rw [pk_un eo]
        exact e2
  · by_cases eo : o = b
    · exact ⟨N, by omega, by rw [pk_us, eo]⟩
    · rw [pk_un eo] at g
      obtain ⟨k, hk, e⟩ := h4 o ho g
      exact ⟨k, by omega, by rw [pk_un (by omega)]; exact e⟩
  · have key : ∀ k, k < N → ¬ a13 k = nI b := by
      intro k hk e
      obtain ⟨o, ho, e1, e2⟩ := h3 k hk
      have eo : o = b := sl_inj (by omega) (by omega) (by rw [← e1, e])
      rw [eo] at e2
      exact e2 m2
    by_cases e : k = N
    · by_cases e' : k' = N
      · omega
      · rw [e, pk_us, pk_un e'] at g
        exact absurd g.symm (key k' (by omega))
    · by_cases e' : k' = N
      · rw [e', pk_us, pk_un e] at g
        exact absurd g (key k (by omega))
      · rw [pk_un e, pk_un e'] at g
        exact h5 k k' (by omega) (by omega) g
  · by_cases e : k = N
    · subst e
      rw [pk_us] at g
      have eo : b = o := sl_inj (by omega) (by omega) g
      subst eo
      obtain ⟨k', hk', e'⟩ := h4 m hm (m3 m hm hb2).1
      exact ⟨k', hk', by rw [pk_un (by omega)]; exact e'⟩
    · rw [pk_un e] at g
      obtain ⟨k', hk', e'⟩ := h6 k o (by omega) ho g m hm hb2
      exact ⟨k', hk', by rw [pk_un (by omega)]; exact e'⟩
/-- all is issued, or we are not yet beyond cycle x -/
def sl_Q (a9 a10 : Nat → Int32) (x N : Nat) (a12 a13 : Nat → Int32) : Prop :=
  sl_C a9 a10 N a12 a13 ∧ ((∀ n, n < 28 → a9 n ≠ 0 → ¬ a12 n < 0) ∨ x ≤ 3 * N)
theorem sl_prog {a9 a10 a12 a13 : Nat → Int32} {N q : Nat} (h : sl_C a9 a10 N a12 a13)
    (hU : ∀ n m, n < 28 → m < 28 → sl_bit (a10 n) m → a9 m ≠ 0 ∧ sl_rk m < sl_rk n)
    (hno : ∀ b, b < 28 → ¬ sl_may a9 a10 a12 q b) (hq : q < 100) (hx : 3 * N ≤ q) : ∀ n, n < 28 → a9 n ≠ 0 → ¬ a12 n < 0 := by
  have key : ∀ r n, sl_rk n < r → n < 28 → a9 n ≠ 0 → ¬ a12 n < 0 := by
    intro r
    induction r with
    | zero => intro n hn; omega
    | succ r ih =>
      intro n hr hn hu hi
      refine hno n hn ⟨hu, hi, fun m hm hb => ?_⟩
      obtain ⟨u1, u2⟩ := hU n m hn hm hb
      have hi2 := ih m (by omega) hm u1
      refine ⟨hi2, ?_⟩
      rcases h.2.1 m hm with z | ⟨_, t, z1, z2, z3⟩
      · exact absurd (by rw [z]; exact sl_m1) hi2
      · have hl := sl_lat_le m
        rw [z1, nI_add, nI_ltI (by omega) (by omega)]
        omega
  exact fun n => key (sl_rk n + 1) n (by omega)
theorem sl_Q_no {a9 a10 a12 a13 : Nat → Int32} {N q : Nat} (h : sl_Q a9 a10 q N a12 a13)
    (hU : ∀ n m, n < 28 → m < 28 → sl_bit (a10 n) m → a9 m ≠ 0 ∧ sl_rk m < sl_rk n)
    (hno : ∀ b, b < 28 → ¬ sl_may a9 a10 a12 q b) (hq : q < 100) : sl_Q a9 a10 (q + 1) N a12 a13 := by
  refine ⟨h.1, ?_⟩
  rcases h.2 with z | z
  · exact .inl z
  · rcases Nat.lt_or_ge q (3 * N) with y | y
    · exact .inr (by omega)
    · exact .inl (sl_prog h.1 hU hno hq y)
theorem sl_Q_add {a9 a10 a12 a13 : Nat → Int32} {N q x b : Nat} (h : sl_Q a9 a10 x N a12 a13) (hb : b < 28) (hm : sl_may a9 a10 a12 q b) (hq : q < 100) (hx : q ≤ x) (hx2 : x ≤ q + 1) :
    sl_Q a9 a10 (q + 1) (N + 1) (upd a12 b (nI q)) (upd a13 N (nI b)) := by
  rcases h.2 with z | z
  · exact absurd hm.2.1 (z b hb hm.1)
  · exact ⟨sl_C_add h.1 hb hm hq (by omega), .inr (by omega)⟩
/-- a finished schedule -/
def sl_Sch (c : Nat) (a1 a2 a3 a4 : Nat → Int32) (fl : Int32) (a13 a14 : Nat → Int32) : Prop :=
  ∃ N, N ≤ 28 ∧ fl = nI N ∧
  (∀ k, k < N → ∃ o, o < 28 ∧ a13 k = nI o ∧ sl_us c a1 o) ∧
  (∀ o, o < c → ∃ k, k < N ∧ a13 k = nI o) ∧
  (∀ k k', k < N → k' < N → a13 k = a13 k' → k = k') ∧
  (∀ i j, i < j → j < c → sl_beh a1 a2 a3 a4 i j → ∀ k, k < N → a13 k = nI j → ∃ k', k' < k ∧ a13 k' = nI i) ∧
  (∀ k, k < c → a1 k = 3 → a14 k = -1 ∨ ∃ w, w < 14 ∧ a14 k = nI w)
theorem sl_fin {c N : Nat} {a1 a2 a3 a4 a9 a10 a12 a13 a14 : Nat → Int32} (hc : c ≤ 14) (ho : sl_Ord c a1 a2 a3 a4 a9 a10 a14) (hq : sl_Q a9 a10 100 N a12 a13) :
    sl_Sch c a1 a2 a3 a4 (nI N) a13 a14 := by
  obtain ⟨o1, o2, o3, o4⟩ := ho
  obtain ⟨⟨h1, h2, h3, h4, h5, h6⟩, hd⟩ := hq
  have hN : N ≤ 28 := by
    rw [← h1]
    exact sl_cnt_le a12 28
  have us : ∀ n, n < 28 → a9 n ≠ 0 → sl_us c a1 n := by
    intro n hn z
    rcases Classical.em (sl_us c a1 n) with y | y
    · exact y
    · exact absurd ((o1 n hn).mpr y) z
  have done : ∀ n, n < 28 → a9 n ≠ 0 → ¬ a12 n < 0 := by
    rcases hd with z | z
    · exact z
    · omega
  refine ⟨N, hN, rfl, fun k hk => ?_, fun o ho => ?_, h5, fun i j hij hj hb k hk e => ?_, o4⟩
  · obtain ⟨o, ho, e1, e2⟩ := h3 k hk
    refine ⟨o, ho, e1, us o ho ?_⟩
    rcases h2 o ho with z | z
    · exact absurd (by rw [z]; exact sl_m1) e2
    · exact z.1
  · exact h4 o (by omega) (done o (by omega) (fun z => (o1 o (by omega)).mp z (.inl ho)))
  · exact h6 k j hk (by omega) e i (by omega) (o3 i j hij hj hb)
end
section
/-! ===== the pure picture of a run ===== -/
/-- 0: the address is good; 2: it faults -/
def sl_fa (B : Nat → Int32) (x : Int32) : Int32 := if x < 0 then 2 else if x ≤ 15 then (if B x.toNatClampNeg = 0 then 0 else 2) else 2
/-- what instruction (k, l, v) ends with, 0 if the run goes on -/
def sl_ex (k l v : Int32) (B R : Nat → Int32) : Int32 :=
  if k = 3 ∨ k = 4 then sl_fa B (R l.toNatClampNeg + v) else if k = 5 then (if R l.toNatClampNeg = 0 then 0 else 1) else 0
def sl_va (k l r v : Int32) (R M : Nat → Int32) : Int32 :=
  if k = 3 then M (R l.toNatClampNeg + v).toNatClampNeg else if k = 0 then v else if k = 1 then R l.toNatClampNeg + R r.toNatClampNeg else R l.toNatClampNeg - R r.toNatClampNeg
def sl_nR (k d l r v : Int32) (R M : Nat → Int32) : Nat → Int32 :=
  if k = 4 ∨ k = 5 then R else upd R d.toNatClampNeg (sl_va k l r v R M)
def sl_nM (k l r v : Int32) (R M : Nat → Int32) : Nat → Int32 :=
  if k = 4 then upd M (R l.toNatClampNeg + v).toNatClampNeg (R r.toNatClampNeg) else M
def sl_S (a1 a2 a3 a4 a5 R M : Nat → Int32) : Nat → (Nat → Int32) × (Nat → Int32)
  | 0 => (R, M)
  | i + 1 => (sl_nR (a1 i) (a2 i) (a3 i) (a4 i) (a5 i) (sl_S a1 a2 a3 a4 a5 R M i).1 (sl_S a1 a2 a3 a4 a5 R M i).2,
      sl_nM (a1 i) (a3 i) (a4 i) (a5 i) (sl_S a1 a2 a3 a4 a5 R M i).1 (sl_S a1 a2 a3 a4 a5 R M i).2)
def sl_go (a1 a2 a3 a4 a5 B R M : Nat → Int32) : Nat → Int32 × (Nat → Int32) × (Nat → Int32)
  | 0 => (0, R, M)
  | i + 1 =>
    if (sl_go a1 a2 a3 a4 a5 B R M i).1 = 0 then
      (if sl_ex (a1 i) (a3 i) (a5 i) B (sl_go a1 a2 a3 a4 a5 B R M i).2.1 = 0 then
        (0, sl_nR (a1 i) (a2 i) (a3 i) (a4 i) (a5 i) (sl_go a1 a2 a3 a4 a5 B R M i).2.1 (sl_go a1 a2 a3 a4 a5 B R M i).2.2,
          sl_nM (a1 i) (a3 i) (a4 i) (a5 i) (sl_go a1 a2 a3 a4 a5 B R M i).2.1 (sl_go a1 a2 a3 a4 a5 B R M i).2.2)
      else (sl_ex (a1 i) (a3 i) (a5 i) B (sl_go a1 a2 a3 a4 a5 B R M i).2.1 + 4 * nI i, (sl_go a1 a2 a3 a4 a5 B R M i).2))
    else sl_go a1 a2 a3 a4 a5 B R M i
theorem sl_fa_v (B : Nat → Int32) (x : Int32) : sl_fa B x = 0 ∨ sl_fa B x = 2 := by
  unfold sl_fa
  split
  · exact .inr rfl
  · split
    · split
      · exact .inl rfl
      · exact .inr rfl
    · exact .inr rfl
theorem sl_fa_0 {B : Nat → Int32} {x : Int32} (h : sl_fa B x = 0) : ∃ y, y < 16 ∧ x = nI y ∧ B y = 0 := by
  unfold sl_fa at h
  split at h
  · exact absurd h (by decide)
  · rename_i h1
    split at h
    · rename_i h2
      split at h
      · rename_i h3
        obtain ⟨y, hy, rfl⟩ := nI_of2 (n := 15) (M := 15) (by decide) h1 h2
        rw [nI_clamp (by omega)] at h3
        exact ⟨y, by omega, rfl, h3⟩
      · exact absurd h (by decide)
    · exact absurd h (by decide)
theorem sl_fa_t {B : Nat → Int32} {y : Nat} (hy : y < 16) (h : B y = 0) : sl_fa B (nI y) = 0 := by
  unfold sl_fa
  rw [if_neg (nI_pos (by omega)), if_pos (show nI y ≤ 15 from nI_le (b := 15) (by omega) (by decide)), nI_clamp (by omega), if_pos h]
theorem sl_ex_v (k l v : Int32) (B R : Nat → Int32) : sl_ex k l v B R = 0 ∨ sl_ex k l v B R = 1 ∨ sl_ex k l v B R = 2 := by
  unfold sl_ex
  split
  · rcases sl_fa_v B (R l.toNatClampNeg + v) with h | h
    · exact .inl h
    · exact .inr (.inr h)
  · split
    · split
      · exact .inl rfl
      · exact .inr (.inl rfl)
    · exact .inl rfl
theorem sl_cd1 : ∀ e, e < 14 → ¬ ((1 : Int32) + 4 * nI e = 0) := by decide +kernel
theorem sl_cd2 : ∀ e, e < 14 → ¬ ((2 : Int32) + 4 * nI e = 0) := by decide +kernel
theorem sl_cd1' : ∀ e, e < 14 → ¬ ((1 : Int32) + 4 * nI e < 0) := by decide +kernel
theorem sl_cd2' : ∀ e, e < 14 → ¬ ((2 : Int32) + 4 * nI e < 0) := by decide +kernel
theorem sl_cd {k l v : Int32} {B R : Nat → Int32} {e : Nat} (he : e < 14) (h : sl_ex k l v B R ≠ 0) : sl_ex k l v B R + 4 * nI e ≠ 0 ∧ ¬ sl_ex k l v B R + 4 * nI e < 0 := by
  rcases sl_ex_v k l v B R with z | z | z
  · exact absurd z h
  · rw [z]
    exact ⟨sl_cd1 e he, sl_cd1' e he⟩
  · rw [z]
    exact ⟨sl_cd2 e he, sl_cd2' e he⟩
section
variable {a1 a2 a3 a4 a5 B R0 M0 : Nat → Int32}
theorem sl_go_S (i : Nat) (h : ∀ j, j < i → sl_ex (a1 j) (a3 j) (a5 j) B (sl_S a1 a2 a3 a4 a5 R0 M0 j).1 = 0) :
    sl_go a1 a2 a3 a4 a5 B R0 M0 i = (0, sl_S a1 a2 a3 a4 a5 R0 M0 i) := by
  induction i with
  | zero => rfl
  | succ i ih =>
    have e := ih (fun j hj => h j (by omega))
    have x := h i (by omega)
    unfold sl_go
    rw [e]
    dsimp only
    rw [if_pos rfl, if_pos x]
    rfl
theorem sl_go_stop (e : Nat) (he : e < 14) (h : ∀ j, j < e → sl_ex (a1 j) (a3 j) (a5 j) B (sl_S a1 a2 a3 a4 a5 R0 M0 j).1 = 0)
    (hx : sl_ex (a1 e) (a3 e) (a5 e) B (sl_S a1 a2 a3 a4 a5 R0 M0 e).1 ≠ 0) (i : Nat) (hi : e < i) :
    sl_go a1 a2 a3 a4 a5 B R0 M0 i = (sl_ex (a1 e) (a3 e) (a5 e) B (sl_S a1 a2 a3 a4 a5 R0 M0 e).1 + 4 * nI e, sl_S a1 a2 a3 a4 a5 R0 M0 e) := by
  induction i with
  | zero => omega
  | succ i ih =>
    by_cases z : i = e
    · subst z
      unfold sl_go
      rw [sl_go_S i h]
      dsimp only
      rw [if_pos rfl, if_neg hx]
    · unfold sl_go
      rw [ih (by omega)]
      dsimp only
      rw [if_neg (sl_cd he hx).1]
/-- instruction j writes register r -/
def sl_wr (a1 a2 : Nat → Int32) (j r : Nat) : Prop := a1 j ≠ 4 ∧ a1 j ≠ 5 ∧ (a2 j).toNatClampNeg = r
theorem sl_S_reg {r p : Nat} (q : Nat) (hpq : p ≤ q) (h : ∀ j, p ≤ j → j < q → ¬ sl_wr a1 a2 j r) : (sl_S a1 a2 a3 a4 a5 R0 M0 q).1 r = (sl_S a1 a2 a3 a4 a5 R0 M0 p).1 r := by
  induction q with
  | zero =>
    have e : p = 0 := by omega
    rw [e]
  | succ q ih =>
    by_cases e : p = q + 1
    · rw [e]
    · rw [← ih (by omega) (fun j h1 h2 => h j h1 (by omega))]
      show sl_nR (a1 q) (a2 q) (a3 q) (a4 q) (a5 q) (sl_S a1 a2 a3 a4 a5 R0 M0 q).1 (sl_S a1 a2 a3 a4 a5 R0 M0 q).2 r = _
      have hw := h q (by omega) (by omega)
      unfold sl_nR
      split
      · rfl
      · rename_i hk
        rw [pk_un (fun z => hw ⟨fun y => hk (.inl y), fun y => hk (.inr y), z.symm⟩)]
theorem sl_S_mem {p : Nat} (q : Nat) (hpq : p ≤ q) (h : ∀ j, p ≤ j → j < q → ¬ a1 j = 4) : (sl_S a1 a2 a3 a4 a5 R0 M0 q).2 = (sl_S a1 a2 a3 a4 a5 R0 M0 p).2 := by
  induction q with
  | zero =>
    have e : p = 0 := by omega
    rw [e]
  | succ q ih =>
    by_cases e : p = q + 1
    · rw [e]
    · rw [← ih (by omega) (fun j h1 h2 => h j h1 (by omega))]
      show sl_nM (a1 q) (a3 q) (a4 q) (a5 q) (sl_S a1 a2 a3 a4 a5 R0 M0 q).1 (sl_S a1 a2 a3 a4 a5 R0 M0 q).2 = _
      unfold sl_nM
      rw [if_neg (h q (by omega) (by omega))]
end
/-- an instruction as the law makes it -/
def sl_Iv (k d l r : Int32) : Prop :=
  (k = 0 ∧ ∃ x, x < 8 ∧ d = nI x) ∨
  ((k = 1 ∨ k = 2) ∧ (∃ x, x < 8 ∧ d = nI x) ∧ (∃ x, x < 8 ∧ l = nI x) ∧ ∃ x, x < 8 ∧ r = nI x) ∨
  (k = 3 ∧ (∃ x, x < 8 ∧ d = nI x) ∧ ∃ x, x < 8 ∧ l = nI x) ∨
  (k = 4 ∧ (∃ x, x < 8 ∧ l = nI x) ∧ ∃ x, x < 8 ∧ r = nI x) ∨
  (k = 5 ∧ ∃ x, x < 8 ∧ l = nI x)
def sl_Pv (c : Nat) (a1 a2 a3 a4 : Nat → Int32) : Prop := c ≤ 14 ∧ ∀ j, j < c → sl_Iv (a1 j) (a2 j) (a3 j) (a4 j)
theorem sl_Iv_d {k d l r : Int32} (h : sl_Iv k d l r) (h4 : k ≠ 4) (h5 : k ≠ 5) : ∃ x, x < 8 ∧ d = nI x := by
  rcases h with ⟨_, h⟩ | ⟨_, h, _⟩ | ⟨_, h, _⟩ | ⟨h, _⟩ | ⟨h, _⟩
  · exact h
  · exact h
  · exact h
  · exact absurd h h4
  · exact absurd h h5
theorem sl_Iv_l {k d l r : Int32} (h : sl_Iv k d l r) (h0 : k ≠ 0) : ∃ x, x < 8 ∧ l = nI x := by
  rcases h with ⟨h, _⟩ | ⟨_, _, h, _⟩ | ⟨_, _, h⟩ | ⟨_, h, _⟩ | ⟨_, h⟩
  · exact absurd h h0
  · exact h
  · exact h
  · exact h
  · exact h
theorem sl_Iv_r {k d l r : Int32} (h : sl_Iv k d l r) (h0 : k ≠ 0) (h3 : k ≠ 3) (h5 : k ≠ 5) : ∃ x, x < 8 ∧ r = nI x := by
  rcases h with ⟨h, _⟩ | ⟨_, _, _, h⟩ | ⟨h, _⟩ | ⟨_, _, h⟩ | ⟨h, _⟩
  · exact absurd h h0
  · exact h
  · exact absurd h h3
  · exact h
  · exact absurd h h5
theorem sl_Iv_k {k d l r : Int32} (h : sl_Iv k d l r) : k = 0 ∨ k = 1 ∨ k = 2 ∨ k = 3 ∨ k = 4 ∨ k = 5 := by
  rcases h with ⟨h, _⟩ | ⟨h | h, _⟩ | ⟨h, _⟩ | ⟨h, _⟩ | ⟨h, _⟩
  · exact .inl h
  · exact .inr (.inl h)
  · exact .inr (.inr (.inl h))
  · exact .inr (.inr (.inr (.inl h)))
  · exact .inr (.inr (.inr (.inr (.inl h))))
  · exact .inr (.inr (.inr (.inr (.inr h))))
/-- the state after the instructions of D, executed in some allowed order -/
def sl_RI (c : Nat) (a1 a2 a3 a4 a5 B R0 M0 : Nat → Int32) (D : Nat → Prop) (R M : Nat → Int32) : Prop :=
  (∀ r, ∃ p, p ≤ c ∧ (∀ j, j < p → sl_wr a1 a2 j r → D j) ∧ (∀ j, p ≤ j → j < c → sl_wr a1 a2 j r → ¬ D j) ∧ R r = (sl_S a1 a2 a3 a4 a5 R0 M0 p).1 r) ∧
  (∃ p, p ≤ c ∧ (∀ j, j < p → a1 j = 4 → D j) ∧ (∀ j, p ≤ j → j < c → a1 j = 4 → ¬ D j) ∧ M = (sl_S a1 a2 a3 a4 a5 R0 M0 p).2) ∧
  (∀ j, j < c → D j → sl_ex (a1 j) (a3 j) (a5 j) B (sl_S a1 a2 a3 a4 a5 R0 M0 j).1 = 0)
section
variable {c : Nat} {a1 a2 a3 a4 a5 B R0 M0 : Nat → Int32}
theorem sl_RI_0 {D : Nat → Prop} (hD : ∀ j, ¬ D j) : sl_RI c a1 a2 a3 a4 a5 B R0 M0 D R0 M0 :=
  ⟨fun r => ⟨0, by omega, fun j hj => absurd hj (by omega), fun j _ _ _ => hD j, rfl⟩, ⟨0, by omega, fun j hj => absurd hj (by omega), fun j _ _ _ => hD j, rfl⟩, fun j _ h => absurd h (hD j)⟩
theorem sl_RI_c {D D' : Nat → Prop} {R M : Nat → Int32} (hc : c ≤ 14) (h : sl_RI c a1 a2 a3 a4 a5 B R0 M0 D R M) (e : ∀ j, j < 14 → (D' j ↔ D j)) : sl_RI c a1 a2 a3 a4 a5 B R0 M0 D' R M := by
  obtain ⟨h1, ⟨p, q1, q2, q3, q4⟩, h3⟩ := h
  refine ⟨fun r => ?_, ⟨p, q1, fun j hj w => (e j (by omega)).mpr (q2 j hj w), fun j hj hc' w z => q3 j hj hc' w ((e j (by omega)).mp z), q4⟩, fun j hj z => h3 j hj ((e j (by omega)).mp z)⟩
  obtain ⟨p, q1, q2, q3, q4⟩ := h1 r
  exact ⟨p, q1, fun j hj w => (e j (by omega)).mpr (q2 j hj w), fun j hj hc' w z => q3 j hj hc' w ((e j (by omega)).mp z), q4⟩
theorem sl_rd {D : Nat → Prop} {R M : Nat → Int32} {j r : Nat} (h : sl_RI c a1 a2 a3 a4 a5 B R0 M0 D R M) (hj : j < c) (hD : ¬ D j)
    (h1 : ∀ i, i < j → sl_wr a1 a2 i r → D i) (h2 : ∀ k, j < k → k < c → sl_wr a1 a2 k r → ¬ D k) : R r = (sl_S a1 a2 a3 a4 a5 R0 M0 j).1 r := by
  obtain ⟨p, q1, q2, q3, q4⟩ := h.1 r
  rw [q4]
  rcases Nat.lt_or_ge j p with z | z
  · refine sl_S_reg p (by omega) (fun i hi hi2 w => ?_)
    have d := q2 i hi2 w
    by_cases e : i = j
    · rw [e] at d
      exact hD d
    · exact h2 i (by omega) (by omega) w d
  · exact (sl_S_reg j z (fun i hi hi2 w => q3 i hi (by omega) w (h1 i hi2 w))).symm
theorem sl_rdM {D : Nat → Prop} {R M : Nat → Int32} {j : Nat} (h : sl_RI c a1 a2 a3 a4 a5 B R0 M0 D R M) (hj : j < c) (hD : ¬ D j)
    (h1 : ∀ i, i < j → a1 i = 4 → D i) (h2 : ∀ k, j < k → k < c → a1 k = 4 → ¬ D k) : M = (sl_S a1 a2 a3 a4 a5 R0 M0 j).2 := by
  obtain ⟨p, q1, q2, q3, q4⟩ := h.2.1
  rw [q4]
  rcases Nat.lt_or_ge j p with z | z
  · refine sl_S_mem p (by omega) (fun i hi hi2 w => ?_)
    have d := q2 i hi2 w
    by_cases e : i = j
    · rw [e] at d
      exact hD d
    · exact h2 i (by omega) (by omega) w d
  · exact (sl_S_mem j z (fun i hi hi2 w => q3 i hi (by omega) w (h1 i hi2 w))).symm
theorem sl_end {D : Nat → Prop} {R M : Nat → Int32} (h : sl_RI c a1 a2 a3 a4 a5 B R0 M0 D R M) (hD : ∀ j, j < c → D j) :
    sl_go a1 a2 a3 a4 a5 B R0 M0 c = (0, R, M) := by
  rw [sl_go_S c (fun j hj => h.2.2 j hj (hD j hj))]
  have e1 : (sl_S a1 a2 a3 a4 a5 R0 M0 c).1 = R := by
    funext r
    obtain ⟨p, q1, q2, q3, q4⟩ := h.1 r
    rw [q4]
    exact sl_S_reg c q1 (fun i hi hi2 w => q3 i hi hi2 w (hD i hi2))
  have e2 : (sl_S a1 a2 a3 a4 a5 R0 M0 c).2 = M := by
    obtain ⟨p, q1, q2, q3, q4⟩ := h.2.1
    rw [q4]
    exact sl_S_mem c q1 (fun i hi hi2 w => q3 i hi hi2 w (hD i hi2))
  rw [← e1, ← e2]
theorem sl_wr_d {i r : Nat} (hv : sl_Iv (a1 i) (a2 i) (a3 i) (a4 i)) (w : sl_wr a1 a2 i r) : a2 i = nI r := by
  obtain ⟨x, hx, e⟩ := sl_Iv_d hv w.1 w.2.1
  have e2 := w.2.2
  rw [e, nI_clamp (by omega)] at e2
  rw [e, e2]
/-- what stands ready at j: all ahead of it that it must stay behind, nothing that must stay behind it -/
def sl_At (c : Nat) (a1 a2 a3 a4 : Nat → Int32) (D : Nat → Prop) (j : Nat) : Prop :=
  j < c ∧ ¬ D j ∧ (∀ i, i < j → sl_beh a1 a2 a3 a4 i j → D i) ∧ (∀ k, j < k → k < c → sl_beh a1 a2 a3 a4 j k → ¬ D k)
theorem sl_rl {D : Nat → Prop} {R M : Nat → Int32} {j r : Nat} (hv : sl_Pv c a1 a2 a3 a4) (h : sl_RI c a1 a2 a3 a4 a5 B R0 M0 D R M) (ha : sl_At c a1 a2 a3 a4 D j)
    (e : a3 j = nI r ∨ a4 j = nI r) : R r = (sl_S a1 a2 a3 a4 a5 R0 M0 j).1 r := by
  obtain ⟨hj, hD, b1, b2⟩ := ha
  refine sl_rd h hj hD (fun i hi w => b1 i hi ?_) (fun k hk hkc w => b2 k hk hkc ?_)
  · have z := sl_wr_d (hv.2 i (by omega)) w
    rcases e with e | e
    · exact .inr (.inr (.inr (.inl (by rw [e, z]))))
    · exact .inr (.inr (.inr (.inr (.inl (by rw [e, z])))))
  · have z := sl_wr_d (hv.2 k hkc) w
    rcases e with e | e
    · exact .inr (.inr (.inr (.inr (.inr (.inl (by rw [e, z]))))))
    · exact .inr (.inr (.inr (.inr (.inr (.inr (by rw [e, z]))))))
theorem sl_rf {D : Nat → Prop} {R M : Nat → Int32} {j : Nat} (h : sl_RI c a1 a2 a3 a4 a5 B R0 M0 D R M) (ha : sl_At c a1 a2 a3 a4 D j)
    (e : ¬ a1 j < 3) : R = (sl_S a1 a2 a3 a4 a5 R0 M0 j).1 ∧ M = (sl_S a1 a2 a3 a4 a5 R0 M0 j).2 := by
  obtain ⟨hj, hD, b1, b2⟩ := ha
  exact ⟨funext (fun r => sl_rd h hj hD (fun i hi _ => b1 i hi (.inr (.inl e))) (fun k hk hkc _ => b2 k hk hkc (.inl e))),
    sl_rdM h hj hD (fun i hi _ => b1 i hi (.inr (.inl e))) (fun k hk hkc _ => b2 k hk hkc (.inl e))⟩
theorem sl_ex_e {D : Nat → Prop} {R M : Nat → Int32} {j : Nat} (h : sl_RI c a1 a2 a3 a4 a5 B R0 M0 D R M) (ha : sl_At c a1 a2 a3 a4 D j) :
    sl_ex (a1 j) (a3 j) (a5 j) B R = sl_ex (a1 j) (a3 j) (a5 j) B (sl_S a1 a2 a3 a4 a5 R0 M0 j).1 := by
  by_cases e : a1 j = 3 ∨ a1 j = 4 ∨ a1 j = 5
  · have f : ¬ a1 j < 3 := by
      rcases e with e | e | e <;> rw [e] <;> decide
    rw [← (sl_rf h ha f).1]
  · unfold sl_ex
    rw [if_neg (fun z => e (z.elim .inl (fun y => .inr (.inl y)))), if_neg (fun z => e (.inr (.inr z))), if_neg (fun z => e (z.elim .inl (fun y => .inr (.inl y)))), if_neg (fun z => e (.inr (.inr z)))]
theorem sl_stop {D : Nat → Prop} {R M : Nat → Int32} {j : Nat} (hv : sl_Pv c a1 a2 a3 a4) (h : sl_RI c a1 a2 a3 a4 a5 B R0 M0 D R M) (ha : sl_At c a1 a2 a3 a4 D j)
    (hx : sl_ex (a1 j) (a3 j) (a5 j) B R ≠ 0) : sl_go a1 a2 a3 a4 a5 B R0 M0 c = (sl_ex (a1 j) (a3 j) (a5 j) B R + 4 * nI j, R, M) := by
  have f : ¬ a1 j < 3 := by
    rcases sl_Iv_k (hv.2 j ha.1) with e | e | e | e | e | e
    · exact absurd (by rw [e]; rfl) hx
    · exact absurd (by rw [e]; rfl) hx
    · exact absurd (by rw [e]; rfl) hx
    · rw [e]; decide
    · rw [e]; decide
    · rw [e]; decide
  have ex := sl_ex_e h ha
  obtain ⟨e1, e2⟩ := sl_rf h ha f
  rw [sl_go_stop j (Nat.lt_of_lt_of_le ha.1 hv.1) (fun i hi => h.2.2 i (Nat.lt_trans hi ha.1) (ha.2.2.1 i hi (.inr (.inl f)))) (by rw [← ex]; exact hx) c ha.1, ← ex]
  rw [← show ((sl_S a1 a2 a3 a4 a5 R0 M0 j).1, (sl_S a1 a2 a3 a4 a5 R0 M0 j).2) = sl_S a1 a2 a3 a4 a5 R0 M0 j from rfl, ← e1, ← e2]
theorem sl_va_e {D : Nat → Prop} {R M : Nat → Int32} {j : Nat} (hv : sl_Pv c a1 a2 a3 a4) (h : sl_RI c a1 a2 a3 a4 a5 B R0 M0 D R M) (ha : sl_At c a1 a2 a3 a4 D j)
    (h4 : a1 j ≠ 4) (h5 : a1 j ≠ 5) : sl_va (a1 j) (a3 j) (a4 j) (a5 j) R M = sl_va (a1 j) (a3 j) (a4 j) (a5 j) (sl_S a1 a2 a3 a4 a5 R0 M0 j).1 (sl_S a1 a2 a3 a4 a5 R0 M0 j).2 := by
  by_cases k3 : a1 j = 3
  · obtain ⟨e1, e2⟩ := sl_rf h ha (by rw [k3]; decide)
    rw [← e1, ← e2]
  · by_cases k0 : a1 j = 0
    · unfold sl_va
      rw [if_neg k3, if_pos k0, if_neg k3, if_pos k0]
    · obtain ⟨l, hl, el⟩ := sl_Iv_l (hv.2 j ha.1) k0
      obtain ⟨r, hr, er⟩ := sl_Iv_r (hv.2 j ha.1) k0 k3 h5
      have e1 := sl_rl hv h ha (.inl el)
      have e2 := sl_rl hv h ha (.inr er)
      unfold sl_va
      rw [if_neg k3, if_neg k0, if_neg k3, if_neg k0, el, er, nI_clamp (by omega), nI_clamp (by omega), e1, e2]
theorem sl_step {D : Nat → Prop} {R M : Nat → Int32} {j : Nat} (hv : sl_Pv c a1 a2 a3 a4) (h : sl_RI c a1 a2 a3 a4 a5 B R0 M0 D R M) (ha : sl_At c a1 a2 a3 a4 D j)
    (hx : sl_ex (a1 j) (a3 j) (a5 j) B R = 0) :
    sl_RI c a1 a2 a3 a4 a5 B R0 M0 (fun i => D i ∨ i = j) (sl_nR (a1 j) (a2 j) (a3 j) (a4 j) (a5 j) R M) (sl_nM (a1 j) (a3 j) (a4 j) (a5 j) R M) := by
  refine ⟨fun r => ?_, ?_, fun i hi z => ?_⟩
  · by_cases w : sl_wr a1 a2 j r
    · obtain ⟨h4, h5, hr⟩ := w
      have n45 : ¬ (a1 j = 4 ∨ a1 j = 5) := fun z => z.elim h4 h5
      have ej := sl_wr_d (hv.2 j ha.1) ⟨h4, h5, hr⟩
      refine ⟨j + 1, ha.1, fun i hi wi => ?_, fun i hi hic wi z => ?_, ?_⟩
      · by_cases e : i = j
        · exact .inr e
        · have ei := sl_wr_d (hv.2 i (by have := ha.1; omega)) wi
          exact .inl (ha.2.2.1 i (by omega) (.inr (.inr (.inl (by rw [ei, ej])))))
      · have ei := sl_wr_d (hv.2 i hic) wi
        rcases z with z | z
        · exact ha.2.2.2 i (by omega) hic (.inr (.inr (.inl (by rw [ei, ej])))) z
        · omega
      · show _ = sl_nR (a1 j) (a2 j) (a3 j) (a4 j) (a5 j) (sl_S a1 a2 a3 a4 a5 R0 M0 j).1 (sl_S a1 a2 a3 a4 a5 R0 M0 j).2 r
        unfold sl_nR
        rw [if_neg n45, if_neg n45, hr, pk_us, pk_us]
        exact sl_va_e hv h ha h4 h5
    · obtain ⟨p, q1, q2, q3, q4⟩ := h.1 r
      refine ⟨p, q1, fun i hi wi => .inl (q2 i hi wi), fun i hi hic wi z => ?_, ?_⟩
      · rcases z with z | z
        · exact q3 i hi hic wi z
        · rw [z] at wi
          exact w wi
      · rw [← q4]
        unfold sl_nR
        by_cases n45 : a1 j = 4 ∨ a1 j = 5
        · rw [if_pos n45]
        · rw [if_neg n45, pk_un (fun z => w ⟨fun y => n45 (.inl y), fun y => n45 (.inr y), z.symm⟩)]
  · by_cases k4 : a1 j = 4
    · have f : ¬ a1 j < 3 := by rw [k4]; decide
      refine ⟨j + 1, ha.1, fun i hi wi => ?_, fun i hi hic wi z => ?_, ?_⟩
      · by_cases e : i = j
        · exact .inr e
        · exact .inl (ha.2.2.1 i (by omega) (.inr (.inl f)))
      · rcases z with z | z
        · exact ha.2.2.2 i (by omega) hic (.inl f) z
        · omega
      · show _ = sl_nM (a1 j) (a3 j) (a4 j) (a5 j) (sl_S a1 a2 a3 a4 a5 R0 M0 j).1 (sl_S a1 a2 a3 a4 a5 R0 M0 j).2
        obtain ⟨e1, e2⟩ := sl_rf h ha f
        rw [← e1, ← e2]
    · obtain ⟨p, q1, q2, q3, q4⟩ := h.2.1
      refine ⟨p, q1, fun i hi wi => .inl (q2 i hi wi), fun i hi hic wi z => ?_, ?_⟩
      · rcases z with z | z
        · exact q3 i hi hic wi z
        · rw [z] at wi
          exact k4 wi
      · unfold sl_nM
        rw [if_neg k4]
        exact q4
  · rcases z with z | z
    · exact h.2.2 i hi z
    · rw [z, ← sl_ex_e h ha]
      exact hx
end
/-- where the schedule puts j at place k -/
theorem sl_at_of {c N : Nat} {a1 a2 a3 a4 a13 : Nat → Int32} {k j : Nat} (hc : c ≤ 14)
    (h5 : ∀ k k', k < N → k' < N → a13 k = a13 k' → k = k')
    (h6 : ∀ i j, i < j → j < c → sl_beh a1 a2 a3 a4 i j → ∀ k, k < N → a13 k = nI j → ∃ k', k' < k ∧ a13 k' = nI i)
    (hk : k < N) (hj : j < c) (e : a13 k = nI j) : sl_At c a1 a2 a3 a4 (fun i => ∃ k', k' < k ∧ a13 k' = nI i) j := by
  refine ⟨hj, fun ⟨k', hk', e'⟩ => ?_, fun i hi hb => h6 i j hi hj hb k hk e, fun i hi hic hb ⟨k', hk', e'⟩ => ?_⟩
  · have := h5 k' k (by omega) hk (by rw [e, e'])
    omega
  · obtain ⟨k2, hk2, e2⟩ := h6 j i hi hic hb k' (by omega) e'
    have := h5 k2 k (by omega) hk (by rw [e, e2])
    omega
/-- the table of watched loads -/
def sl_Wt (B M E15 W17 W18 : Nat → Int32) (E : Nat → Prop) : Prop :=
  ∀ w, w < 4 → W17 w = -1 ∨ ∃ i x, i < 14 ∧ x < 16 ∧ W17 w = nI i ∧ W18 w = nI x ∧ B x = 0 ∧ E15 i = M x ∧ E i
end
section
/-! ===== the walk of orderAll ===== -/
theorem sl_fence {fc fe fr fl fv : Int32} {a1 a2 a3 a4 a5 a6 a7 a8 a9 a10 a11 a12 a13 a14 a15 a16 a17 a18 : Nat → Int32} {post : Int32 → Prop} {i : Nat} (hi : i < 14) (h0 : a1 i < 3 → post 0) (h1 : ¬ a1 i < 3 → post 1) : wpX_fence post (fc, fe, fr, fl, fv, a1, a2, a3, a4, a5, a6, a7, a8, a9, a10, a11, a12, a13, a14, a15, a16, a17, a18) (nI i) := by
  unfold wpX_fence
  dsimp only
  rw [nI_clamp (by omega)]
  exact ⟨vp_in_nI hi (by omega), br_c h0 h1⟩
theorem sl_reads {fc fe fr fl fv : Int32} {a1 a2 a3 a4 a5 a6 a7 a8 a9 a10 a11 a12 a13 a14 a15 a16 a17 a18 : Nat → Int32} {post : Int32 → Prop} {i : Nat} {p : Int32} (hi : i < 14) (h0 : ¬ (a3 i = p ∨ a4 i = p) → post 0) (h1 : (a3 i = p ∨ a4 i = p) → post 1) : wpX_reads post (fc, fe, fr, fl, fv, a1, a2, a3, a4, a5, a6, a7, a8, a9, a10, a11, a12, a13, a14, a15, a16, a17, a18) (nI i) p := by
  unfold wpX_reads
  dsimp only
  rw [nI_clamp (by omega)]
  exact ⟨vp_in_nI hi (by omega), br_c (fun z => h1 (.inl z)) (fun z => ⟨vp_in_nI hi (by omega), br_c (fun y => h1 (.inr y)) (fun y => h0 (fun x => x.elim z y))⟩)⟩
theorem sl_behind {fc fe fr fl fv : Int32} {a1 a2 a3 a4 a5 a6 a7 a8 a9 a10 a11 a12 a13 a14 a15 a16 a17 a18 : Nat → Int32} {post : Int32 → Prop} {i j : Nat} (hi : i < 14) (hj : j < 14) (h1 : sl_beh a1 a2 a3 a4 i j → post 1) (h0 : ¬ sl_beh a1 a2 a3 a4 i j → post 0) : wpX_behind post (fc, fe, fr, fl, fv, a1, a2, a3, a4, a5, a6, a7, a8, a9, a10, a11, a12, a13, a14, a15, a16, a17, a18) (nI i) (nI j) := by
  unfold wpX_behind
  dsimp only
  refine sl_fence hi (fun f1 => br_t rfl ?_) (fun f1 => br_f (by decide) (h1 (.inl f1)))
  refine sl_fence hj (fun f2 => br_t rfl ?_) (fun f2 => br_f (by decide) (h1 (.inr (.inl f2))))
  rw [nI_clamp (show i < 2 ^ 31 by omega), nI_clamp (show j < 2 ^ 31 by omega)]
  refine ⟨vp_in_nI hi (by omega), vp_in_nI hj (by omega), br_c (fun e => h1 (.inr (.inr (.inl e)))) (fun e => ⟨vp_in_nI hi (by omega), ?_⟩)⟩
  refine sl_reads hj (fun g => br_t rfl ⟨vp_in_nI hj (by omega), ?_⟩) (fun g => br_f (by decide) (h1 (.inr (.inr (.inr (g.elim .inl (fun y => .inr (.inl y))))))))
  refine sl_reads hi (fun g2 => br_t rfl (h0 ?_)) (fun g2 => br_f (by decide) (h1 (.inr (.inr (.inr (.inr (.inr g2)))))))
  rintro (z | z | z | z | z | z | z)
  · exact z f1
  · exact z f2
  · exact e z
  · exact g (.inl z)
  · exact g (.inr z)
  · exact g2 (.inl z)
  · exact g2 (.inr z)
theorem sl_writerBefore {fc fe fr fl fv : Int32} {a1 a2 a3 a4 a5 a6 a7 a8 a9 a10 a11 a12 a13 a14 a15 a16 a17 a18 : Nat → Int32} {post : Int32 → Prop} {j : Nat} {p : Int32} (hj : j ≤ 14) (H : ∀ r, (r = -1 ∨ ∃ w, w < j ∧ r = nI w) → post r) : wpX_writerBefore post (fc, fe, fr, fl, fv, a1, a2, a3, a4, a5, a6, a7, a8, a9, a10, a11, a12, a13, a14, a15, a16, a17, a18) (nI j) p :=
  pk_loop (fun n i s => wX_writerBefore_5 post (nI j) p fc fe fr fl fv a1 a2 a3 a4 a5 a6 a7 a8 a9 a10 a11 a12 a13 a14 a15 a16 a17 a18 n s (nI i)) (fun i s => s = -1 ∨ ∃ w, w < i ∧ s = nI w) j 0 (-1) (by omega) (.inl rfl)
    (fun n s h => pk_le j j (fun _ => H s h) (fun z => absurd z (by omega)))
    (fun n i s hi h hw => pk_le j i (fun z => absurd z (by omega)) (fun _ => ⟨pk_in i 14 (by omega), br_c (fun _ => nm_r (nI_1 i) (hw _ (.inr ⟨i, by omega, rfl⟩))) (fun _ => nm_r (nI_1 i) (hw _ (h.elim .inl (fun ⟨w, hw, e⟩ => .inr ⟨w, by omega, e⟩))))⟩))
/-- what putForward does at j -/
def sl_Pf (j : Nat) (a1 s b10 a14 b14 : Nat → Int32) : Prop :=
  (∀ n, n ≠ j → n ≠ 14 + j → b10 n = s n) ∧ b10 j = s j ||| ((1 : Int32) <<< (nI (14 + j) &&& 31)) ∧
  (b10 (14 + j) = s (14 + j) ∨ (∃ w, w < j ∧ a1 w = 3 ∧ b10 (14 + j) = (1 : Int32) <<< (nI (14 + w) &&& 31)) ∨ (∃ w, w < j ∧ b10 (14 + j) = (1 : Int32) <<< (nI w &&& 31))) ∧
  (∀ n, n ≠ j → b14 n = a14 n) ∧ (b14 j = -1 ∨ ∃ w, w < 14 ∧ b14 j = nI w)
theorem sl_putForward {fc fe fr fl fv : Int32} {a1 a2 a3 a4 a5 a6 a7 a8 a9 a10 a11 a12 a13 a14 a15 a16 a17 a18 : Nat → Int32} {post : St1 → Prop} {j : Nat} (hj : j < 14) (H : ∀ b10 b14, sl_Pf j a1 a10 b10 a14 b14 → post (fc, fe, fr, fl, fv, a1, a2, a3, a4, a5, a6, a7, a8, upd a9 (14 + j) 1, b10, a11, a12, a13, b14, a15, a16, a17, a18)) : wpX_putForward post (fc, fe, fr, fl, fv, a1, a2, a3, a4, a5, a6, a7, a8, a9, a10, a11, a12, a13, a14, a15, a16, a17, a18) (nI j) := by
  unfold wpX_putForward
  dsimp only
  refine nm_r (e' := nI (14 + j)) (nI_add 14 j) ⟨pk_in (14 + j) 28 (by omega), ?_⟩
  refine nm_r (e' := upd a9 (14 + j) 1) (by rw [nI_clamp (by omega)]) ⟨pk_in j 28 (by omega), pk_in j 28 (by omega), ?_⟩
  refine nm_r (e' := upd a10 j (a10 j ||| ((1 : Int32) <<< (nI (14 + j) &&& 31)))) (by rw [nI_clamp (by omega)]) ⟨pk_in j 14 (by omega), ?_⟩
  refine nm_r (e' := upd a14 j (-1)) (by rw [nI_clamp (by omega)]) ⟨pk_in j 14 (by omega), ?_⟩
  have k1 : ∀ n, n ≠ j → n ≠ 14 + j → upd a10 j (a10 j ||| ((1 : Int32) <<< (nI (14 + j) &&& 31))) n = a10 n := fun n e _ => pk_un e
  refine sl_writerBefore (by omega) (fun r hr => ?_)
  rcases hr with rfl | ⟨w, hw, rfl⟩
  · exact br_t sl_m1 (br_t sl_m1 (H _ _ ⟨k1, pk_us, .inl (pk_un (by omega)), fun n e => pk_un e, .inl pk_us⟩))
  · refine br_f (nI_pos (by omega)) ⟨pk_in w 14 (by omega), br_c (fun e3 => ⟨pk_in j 14 hj, ?_⟩) (fun e3 => br_f (nI_pos (by omega)) ⟨pk_in (14 + j) 28 (by omega), ?_⟩)⟩
    · rw [nI_clamp (by omega)] at e3
      refine nm_r (e' := upd (upd a14 j (-1)) j (nI w)) (by rw [nI_clamp (by omega)]) ⟨pk_in (14 + j) 28 (by omega), ?_⟩
      refine nm_r (e' := upd (upd a10 j (a10 j ||| ((1 : Int32) <<< (nI (14 + j) &&& 31)))) (14 + j) ((1 : Int32) <<< (nI (14 + w) &&& 31))) (by rw [nI_clamp (by omega), ← nI_add 14 w]; rfl) ?_
      refine H _ _ ⟨fun n e e2 => by rw [pk_un e2]; exact pk_un e, by rw [pk_un (by omega), pk_us], .inr (.inl ⟨w, hw, e3, pk_us⟩), fun n e => by rw [pk_un e, pk_un e], .inr ⟨w, by omega, pk_us⟩⟩
    · refine nm_r (e' := upd (upd a10 j (a10 j ||| ((1 : Int32) <<< (nI (14 + j) &&& 31)))) (14 + j) ((1 : Int32) <<< (nI w &&& 31))) (by rw [nI_clamp (by omega)]) ?_
      refine H _ _ ⟨fun n e e2 => by rw [pk_un e2]; exact pk_un e, by rw [pk_un (by omega), pk_us], .inr (.inr ⟨w, hw, pk_us⟩), fun n e => pk_un e, .inl pk_us⟩
theorem sl_o61 {fc fe fr fl fv : Int32} {a1 a2 a3 a4 a5 a6 a7 a8 a9 a10 a11 a12 a13 a14 a15 a16 a17 a18 : Nat → Int32} {post : St1 → Prop} {J : Int32 → Int32 → Int32 → Int32 → Int32 → Int32 → (Nat → Int32) → (Nat → Int32) → (Nat → Int32) → (Nat → Int32) → (Nat → Int32) → (Nat → Int32) → (Nat → Int32) → (Nat → Int32) → (Nat → Int32) → (Nat → Int32) → (Nat → Int32) → (Nat → Int32) → (Nat → Int32) → (Nat → Int32) → (Nat → Int32) → (Nat → Int32) → (Nat → Int32) → (Nat → Int32) → Prop} {j : Nat} (hj : j < 14) (h0 : sl_In j 0 a1 a2 a3 a4 a10 a10)
    (H1 : a1 j = 3 → ∀ s, sl_In j j a1 a2 a3 a4 a10 s → ∀ b10 b14, sl_Pf j a1 s b10 a14 b14 → J (nI (j + 1)) fc fe fr fl fv a1 a2 a3 a4 a5 a6 a7 a8 (upd a9 (14 + j) 1) b10 a11 a12 a13 b14 a15 a16 a17 a18)
    (H0 : ¬ a1 j = 3 → ∀ s, sl_In j j a1 a2 a3 a4 a10 s → J (nI (j + 1)) fc fe fr fl fv a1 a2 a3 a4 a5 a6 a7 a8 a9 s a11 a12 a13 a14 a15 a16 a17 a18) : ∃ n, wX_orderAll_61 post J (nI j) fc fe fr fl fv n 0 a1 a2 a3 a4 a5 a6 a7 a8 a9 a10 a11 a12 a13 a14 a15 a16 a17 a18 := by
  refine pk_loop (fun n i s => wX_orderAll_61 post J (nI j) fc fe fr fl fv n (nI i) a1 a2 a3 a4 a5 a6 a7 a8 a9 s a11 a12 a13 a14 a15 a16 a17 a18) (fun i s => sl_In j i a1 a2 a3 a4 a10 s) j 0 a10 (by omega) h0 ?_ ?_
  · intro n s h
    refine pk_le j j (fun _ => ⟨pk_in j 14 hj, br_c (fun e => ?_) (fun e => ?_)⟩) (fun z => absurd z (by omega))
    · rw [nI_clamp (by omega)] at e
      exact sl_putForward hj (fun b10 b14 hp => nm_r (nI_1 j) (H1 e s h b10 b14 hp))
    · rw [nI_clamp (by omega)] at e
      exact nm_r (nI_1 j) (H0 e s h)
  · intro n i s hi h hw
    refine pk_le j i (fun z => absurd z (by omega)) (fun _ => ?_)
    refine sl_behind (by omega) hj (fun b => br_f (by decide) ⟨pk_in j 28 (by omega), pk_in j 28 (by omega), ?_⟩) (fun b => br_t rfl (nm_r (nI_1 i) (hw s (sl_in_f h b))))
    exact nm_r (by rw [nI_clamp (by omega)]) (nm_r (nI_1 i) (hw _ (sl_in_t hj hi h)))
theorem sl_o44 {fe fr fl fv : Int32} {a1 a2 a3 a4 a5 a6 a7 a8 a9 a10 a11 a12 a13 a14 a15 a16 a17 a18 : Nat → Int32} {post : St1 → Prop} {c : Nat} (hc : c ≤ 14) (h0 : sl_Ord 0 a1 a2 a3 a4 a9 a10 a14)
    (H : ∀ b9 b10 b14, sl_Ord c a1 a2 a3 a4 b9 b10 b14 → post (nI c, fe, fr, fl, fv, a1, a2, a3, a4, a5, a6, a7, a8, b9, b10, a11, a12, a13, b14, a15, a16, a17, a18)) : ∃ n, wX_orderAll_44 post n 0 (nI c) fe fr fl fv a1 a2 a3 a4 a5 a6 a7 a8 a9 a10 a11 a12 a13 a14 a15 a16 a17 a18 := by
  refine pk_loop (fun n j (s : (Nat → Int32) × (Nat → Int32) × (Nat → Int32)) => wX_orderAll_44 post n (nI j) (nI c) fe fr fl fv a1 a2 a3 a4 a5 a6 a7 a8 s.1 s.2.1 a11 a12 a13 s.2.2 a15 a16 a17 a18) (fun j s => sl_Ord j a1 a2 a3 a4 s.1 s.2.1 s.2.2) c 0 (a9, a10, a14) (by omega) h0 ?_ ?_
  · intro n s h
    exact pk_le c c (fun _ => H _ _ _ h) (fun z => absurd z (by omega))
  · intro n j s hj h hw
    refine pk_le c j (fun z => absurd z (by omega)) (fun _ => ⟨pk_in j 28 (by omega), nm_r (e' := upd s.1 j 1) (by rw [nI_clamp (by omega)]) ?_⟩)
    refine sl_o61 (by omega) (sl_in_0 (by omega) h) (fun e s' g b10 b14 hp => ?_) (fun e s' g => ?_)
    · obtain ⟨p1, p2, p3, p4, p5⟩ := hp
      exact hw (_, _, _) (sl_ord_b (by omega) h g e p1 p2 p3 p4 p5)
    · exact hw (_, _, _) (sl_ord_a (by omega) h g e)
theorem sl_ord_0 {a1 a2 a3 a4 a9 a10 a14 : Nat → Int32} (h : ∀ n, n < 28 → a9 n = 0 ∧ a10 n = 0) : sl_Ord 0 a1 a2 a3 a4 a9 a10 a14 := by
  refine ⟨fun n hn => ⟨fun _ => ?_, fun _ => (h n hn).1⟩, fun n m hn hm hb => ?_, fun i k _ hk => absurd hk (by omega), fun k hk => absurd hk (by omega)⟩
  · rintro (z | ⟨_, z, _⟩) <;> omega
  · rw [(h n hn).2] at hb
    exact absurd hb (sl_bit_0 (by omega))
theorem sl_orderAll {fe fr fl fv : Int32} {a1 a2 a3 a4 a5 a6 a7 a8 a9 a10 a11 a12 a13 a14 a15 a16 a17 a18 : Nat → Int32} {post : St1 → Prop} {c : Nat} (hc : c ≤ 14)
    (H : ∀ b9 b10 b11 b12 b14, sl_Ord c a1 a2 a3 a4 b9 b10 b14 → (∀ n, n < 28 → b12 n = -1) → post (nI c, fe, fr, fl, fv, a1, a2, a3, a4, a5, a6, a7, a8, b9, b10, b11, b12, a13, b14, a15, a16, a17, a18)) : wpX_orderAll post (nI c, fe, fr, fl, fv, a1, a2, a3, a4, a5, a6, a7, a8, a9, a10, a11, a12, a13, a14, a15, a16, a17, a18) := by
  refine pk_loop (fun n i (s : (Nat → Int32) × (Nat → Int32) × (Nat → Int32) × (Nat → Int32)) => wX_orderAll_2 post (nI c) fe fr fl fv n (nI i) a1 a2 a3 a4 a5 a6 a7 a8 s.1 s.2.1 s.2.2.1 s.2.2.2 a13 a14 a15 a16 a17 a18)
    (fun i s => ∀ n, n < i → (s.1 n = 0 ∧ s.2.1 n = 0) ∧ s.2.2.2 n = -1) 28 0 (a9, a10, a11, a12) (by omega) (fun n hn => absurd hn (by omega)) ?_ ?_
  · intro n s h
    refine pk_le 28 28 (fun _ => ?_) (fun z => absurd z (by omega))
    exact sl_o44 hc (sl_ord_0 (fun n hn => (h n hn).1)) (fun b9 b10 b14 ho => H b9 b10 _ _ b14 ho (fun n hn => (h n hn).2))
  · intro n i s hi h hw
    refine pk_le 28 i (fun z => absurd z (by omega)) (fun _ => ⟨pk_in i 28 hi, nm_r (e' := upd s.1 i 0) (by rw [nI_clamp (by omega)]) ⟨pk_in i 28 hi, nm_r (e' := upd s.2.1 i 0) (by rw [nI_clamp (by omega)]) ⟨pk_in i 28 hi, nm_r (e' := upd s.2.2.2 i (-1)) (by rw [nI_clamp (by omega)]) ⟨pk_in i 28 hi, nm_r (e' := upd s.2.2.1 i 0) (by rw [nI_clamp (by omega)]) (nm_r (nI_1 i) (hw (upd s.1 i 0, upd s.2.1 i 0, upd s.2.2.1 i 0, upd s.2.2.2 i (-1)) ?_))⟩⟩⟩⟩)
    intro m hm
    dsimp only
    by_cases e : m = i
    · rw [e, pk_us, pk_us, pk_us]
      exact ⟨⟨rfl, rfl⟩, rfl⟩
    · rw [pk_un e, pk_un e, pk_un e]
      exact h m (by omega)
end
section
/-! ===== the walk of measure, mayIssue, issueOne, schedule ===== -/
theorem sl_latency {fc fe fr fl fv : Int32} {a1 a2 a3 a4 a5 a6 a7 a8 a9 a10 a11 a12 a13 a14 a15 a16 a17 a18 : Nat → Int32} {post : Int32 → Prop} {i : Nat} (hi : i < 28) (h : post (nI (sl_lat i))) : wpX_latency post (fc, fe, fr, fl, fv, a1, a2, a3, a4, a5, a6, a7, a8, a9, a10, a11, a12, a13, a14, a15, a16, a17, a18) (nI i) := by
  unfold sl_lat at h
  refine pk_lt i 14 (fun z => ?_) (fun z => ?_)
  · rw [if_pos z] at h
    exact h
  · rw [if_neg (by omega)] at h
    exact h
theorem sl_heightOf {fc fe fr fl fv : Int32} {a1 a2 a3 a4 a5 a6 a7 a8 a9 a10 a11 a12 a13 a14 a15 a16 a17 a18 : Nat → Int32} {post : Int32 → Prop} {x : Int32} (H : ∀ r, post r) : wpX_heightOf post (fc, fe, fr, fl, fv, a1, a2, a3, a4, a5, a6, a7, a8, a9, a10, a11, a12, a13, a14, a15, a16, a17, a18) x :=
  pk_loop (fun n i s => wX_heightOf_4 post x fc fe fr fl fv a1 a2 a3 a4 a5 a6 a7 a8 a9 a10 a11 a12 a13 a14 a15 a16 a17 a18 n s (nI i)) (fun _ _ => True) 28 0 0 (by omega) trivial
    (fun n s _ => pk_le 28 28 (fun _ => br_c (fun _ => H _) (fun _ => H _)) (fun z => absurd z (by omega)))
    (fun n i s hi _ hw => pk_le 28 i (fun z => absurd z (by omega)) (fun _ => ⟨pk_in i 28 hi, br_c (fun _ => nm_r (nI_1 i) (hw _ trivial)) (fun _ => ⟨pk_in i 28 hi, br_c (fun _ => ⟨pk_in i 28 hi, br_c (fun _ => nm_r (nI_1 i) (hw _ trivial)) (fun _ => ⟨pk_in i 28 hi, nm_e (nm_r (nI_1 i) (hw _ trivial))⟩)⟩) (fun _ => nm_r (nI_1 i) (hw _ trivial))⟩)⟩))
theorem sl_m10 {fc fe fr fl fv : Int32} {a1 a2 a3 a4 a5 a6 a7 a8 a9 a10 a11 a12 a13 a14 a15 a16 a17 a18 : Nat → Int32} {post : St1 → Prop} {J : Int32 → (Nat → Int32) → (Nat → Int32) → (Nat → Int32) → (Nat → Int32) → (Nat → Int32) → (Nat → Int32) → (Nat → Int32) → (Nat → Int32) → (Nat → Int32) → (Nat → Int32) → (Nat → Int32) → (Nat → Int32) → (Nat → Int32) → (Nat → Int32) → (Nat → Int32) → (Nat → Int32) → (Nat → Int32) → (Nat → Int32) → Prop} {k : Nat} (H : ∀ s, J (nI (k + 1)) a1 a2 a3 a4 a5 a6 a7 a8 a9 a10 s a12 a13 a14 a15 a16 a17 a18) : ∃ n, wX_measure_10 post J (nI k) fc fe fr fl fv n 0 a1 a2 a3 a4 a5 a6 a7 a8 a9 a10 a11 a12 a13 a14 a15 a16 a17 a18 :=
  pk_loop (fun n i s => wX_measure_10 post J (nI k) fc fe fr fl fv n (nI i) a1 a2 a3 a4 a5 a6 a7 a8 a9 a10 s a12 a13 a14 a15 a16 a17 a18) (fun _ _ => True) 28 0 a11 (by omega) trivial
    (fun n s _ => pk_le 28 28 (fun _ => nm_r (nI_1 k) (H s)) (fun z => absurd z (by omega)))
    (fun n i s hi _ hw => pk_le 28 i (fun z => absurd z (by omega)) (fun _ => ⟨pk_in i 28 hi, br_c (fun _ => nm_r (nI_1 i) (hw _ trivial)) (fun _ => sl_heightOf (fun r => ⟨pk_in i 28 hi, nm_e (nm_r (nI_1 i) (hw _ trivial))⟩))⟩))
theorem sl_measure {fc fe fr fl fv : Int32} {a1 a2 a3 a4 a5 a6 a7 a8 a9 a10 a11 a12 a13 a14 a15 a16 a17 a18 : Nat → Int32} {post : St1 → Prop} (H : ∀ s, post (fc, fe, fr, fl, fv, a1, a2, a3, a4, a5, a6, a7, a8, a9, a10, s, a12, a13, a14, a15, a16, a17, a18)) : wpX_measure post (fc, fe, fr, fl, fv, a1, a2, a3, a4, a5, a6, a7, a8, a9, a10, a11, a12, a13, a14, a15, a16, a17, a18) :=
  pk_loop (fun n k s => wX_measure_2 post fc fe fr fl fv n (nI k) a1 a2 a3 a4 a5 a6 a7 a8 a9 a10 s a12 a13 a14 a15 a16 a17 a18) (fun _ _ => True) 28 0 a11 (by omega) trivial
    (fun n s _ => pk_le 28 28 (fun _ => H s) (fun z => absurd z (by omega)))
    (fun n k s hk _ hw => pk_le 28 k (fun z => absurd z (by omega)) (fun _ => sl_m10 (fun s' => hw s' trivial)))
theorem sl_bool0 : narrow .boolean (.int 0) = .int 0 := by rfl
theorem sl_bool1 : narrow .boolean (.int 1) = .int 1 := by rfl
theorem sl_mayIssue {fc fe fr fl fv : Int32} {a1 a2 a3 a4 a5 a6 a7 a8 a9 a10 a11 a12 a13 a14 a15 a16 a17 a18 : Nat → Int32} {post : Int32 → Prop} {n q : Nat} (hn : n < 28) (h0 : ¬ sl_may a9 a10 a12 q n → post 0) (h1 : sl_may a9 a10 a12 q n → post 1) : wpX_mayIssue post (fc, fe, fr, fl, fv, a1, a2, a3, a4, a5, a6, a7, a8, a9, a10, a11, a12, a13, a14, a15, a16, a17, a18) (nI n) (nI q) := by
  unfold wpX_mayIssue
  dsimp only
  rw [nI_clamp (by omega)]
  refine ⟨pk_in n 28 hn, br_c (fun e => h0 (fun m => m.1 e)) (fun e => ⟨pk_in n 28 hn, br_c (fun e2 => ?_) (fun e2 => h0 (fun m => e2 m.2.1))⟩)⟩
  refine pk_loop (fun f i s => wX_mayIssue_25 post (nI n) (nI q) fc fe fr fl fv a1 a2 a3 a4 a5 a6 a7 a8 a9 a10 a11 a12 a13 a14 a15 a16 a17 a18 f s (nI i))
    (fun i s => (s = 1 ∧ ∀ m, m < i → sl_bit (a10 n) m → ¬ a12 m < 0 ∧ ¬ nI q < a12 m + nI (sl_lat m)) ∨ (s = 0 ∧ ∃ m, m < i ∧ sl_bit (a10 n) m ∧ ¬ (¬ a12 m < 0 ∧ ¬ nI q < a12 m + nI (sl_lat m)))) 28 0 1 (by omega) (.inl ⟨rfl, fun m hm => absurd hm (by omega)⟩) ?_ ?_
  · intro f s h
    refine pk_le 28 28 (fun _ => ?_) (fun z => absurd z (by omega))
    rcases h with ⟨rfl, h⟩ | ⟨rfl, m, hm, hb, h⟩
    · exact ⟨sl_bool1, h1 ⟨e, e2, h⟩⟩
    · exact ⟨sl_bool0, h0 (fun y => h (y.2.2 m hm hb))⟩
  · intro f i s hi h hw
    refine pk_le 28 i (fun z => absurd z (by omega)) (fun _ => ⟨pk_in n 28 hn, ?_⟩)
    rw [nI_clamp (show n < 2 ^ 31 by omega), nI_clamp (show i < 2 ^ 31 by omega)]
    have no : sl_bit (a10 n) i → ¬ (¬ a12 i < 0 ∧ ¬ nI q < a12 i + nI (sl_lat i)) → wX_mayIssue_25 post (nI n) (nI q) fc fe fr fl fv a1 a2 a3 a4 a5 a6 a7 a8 a9 a10 a11 a12 a13 a14 a15 a16 a17 a18 f 0 (nI (i + 1)) :=
      fun b y => hw 0 (.inr ⟨rfl, i, by omega, b, y⟩)
    refine br_c (fun b => ⟨pk_in i 28 hi, br_c (fun z => ?_) (fun z => ⟨pk_in i 28 hi, sl_latency hi (br_c (fun y => ?_) (fun y => ?_))⟩)⟩) (fun b => nm_r (nI_1 i) (hw s ?_))
    · exact br_c (fun _ => nm_r (nI_1 i) (no b (fun y => y.1 z))) (fun _ => br_t rfl (nm_r (nI_1 i) (no b (fun y => y.1 z))))
    · exact br_c (fun _ => nm_r (nI_1 i) (no b (fun x => x.2 y))) (fun _ => br_t rfl (nm_r (nI_1 i) (no b (fun x => x.2 y))))
    · rcases h with ⟨rfl, h⟩ | ⟨rfl, m, hm, hb, h⟩
      · refine br_f (by decide) (br_f (by decide) (nm_r (nI_1 i) (hw 1 (.inl ⟨rfl, fun m hm hb => ?_⟩))))
        by_cases em : m = i
        · rw [em]
          exact ⟨z, y⟩
        · exact h m (by omega) hb
      · exact br_t rfl (nm_r (nI_1 i) (hw 0 (.inr ⟨rfl, m, by omega, hb, h⟩)))
    · rcases h with ⟨e3, h⟩ | ⟨e3, m, hm, hb, h⟩
      · refine .inl ⟨e3, fun m hm hb => ?_⟩
        by_cases em : m = i
        · rw [em] at hb
          exact absurd hb b
        · exact h m (by omega) hb
      · exact .inr ⟨e3, m, by omega, hb, h⟩
theorem sl_issueOne {fc fe fr fv : Int32} {a1 a2 a3 a4 a5 a6 a7 a8 a9 a10 a11 a12 a13 a14 a15 a16 a17 a18 : Nat → Int32} {post : St1 → Prop} {N q : Nat} (hN : ∀ b, b < 28 → sl_may a9 a10 a12 q b → N < 28)
    (h0 : (∀ b, b < 28 → ¬ sl_may a9 a10 a12 q b) → post (fc, fe, fr, nI N, fv, a1, a2, a3, a4, a5, a6, a7, a8, a9, a10, a11, a12, a13, a14, a15, a16, a17, a18))
    (h1 : ∀ b, b < 28 → sl_may a9 a10 a12 q b → post (fc, fe, fr, nI (N + 1), fv, a1, a2, a3, a4, a5, a6, a7, a8, a9, a10, a11, upd a12 b (nI q), upd a13 N (nI b), a14, a15, a16, a17, a18)) : wpX_issueOne post (fc, fe, fr, nI N, fv, a1, a2, a3, a4, a5, a6, a7, a8, a9, a10, a11, a12, a13, a14, a15, a16, a17, a18) (nI q) := by
  refine pk_loop (fun f i s => wX_issueOne_4 post (nI q) fc fe fr (nI N) fv a1 a2 a3 a4 a5 a6 a7 a8 a9 a10 a11 a12 a13 a14 a15 a16 a17 a18 f s (nI i))
    (fun i s => (s = -1 ∧ ∀ m, m < i → ¬ sl_may a9 a10 a12 q m) ∨ ∃ b, b < 28 ∧ s = nI b ∧ sl_may a9 a10 a12 q b) 28 0 (-1) (by omega) (.inl ⟨rfl, fun m hm => absurd hm (by omega)⟩) ?_ ?_
  · intro f s h
    refine pk_le 28 28 (fun _ => ?_) (fun z => absurd z (by omega))
    rcases h with ⟨rfl, h⟩ | ⟨b, hb, rfl, h⟩
    · exact br_t sl_m1 (h0 h)
    · have l := hN b hb h
      exact br_f (nI_pos (by omega)) ⟨pk_in b 28 hb, nm_r (e' := upd a12 b (nI q)) (by rw [nI_clamp (by omega)]) ⟨pk_in N 28 l, nm_r (e' := upd a13 N (nI b)) (by rw [nI_clamp (by omega)]) (nm_r (nI_1 N) (h1 b hb h))⟩⟩
  · intro f i s hi h hw
    refine pk_le 28 i (fun z => absurd z (by omega)) (fun _ => ?_)
    refine sl_mayIssue hi (fun hm => br_t rfl (nm_r (nI_1 i) (hw s ?_))) (fun hm => br_f (by decide) ?_)
    · rcases h with ⟨e, h⟩ | h
      · refine .inl ⟨e, fun m hm2 => ?_⟩
        by_cases em : m = i
        · rw [em]
          exact hm
        · exact h m (by omega)
      · exact .inr h
    · have hi' : wX_issueOne_4 post (nI q) fc fe fr (nI N) fv a1 a2 a3 a4 a5 a6 a7 a8 a9 a10 a11 a12 a13 a14 a15 a16 a17 a18 f (nI i) (nI (i + 1)) := hw (nI i) (.inr ⟨i, hi, rfl, hm⟩)
      rcases h with ⟨rfl, h⟩ | ⟨b, hb, rfl, h⟩
      · exact br_t sl_m1 (nm_r (nI_1 i) hi')
      · exact br_f (nI_pos (by omega)) ⟨pk_in i 28 hi, pk_in b 28 hb, br_c (fun _ => nm_r (nI_1 i) (hw (nI b) (.inr ⟨b, hb, rfl, h⟩))) (fun _ => nm_r (nI_1 i) hi')⟩
theorem sl_issueQ {fc fe fr fv : Int32} {a1 a2 a3 a4 a5 a6 a7 a8 a9 a10 a11 a12 a13 a14 a15 a16 a17 a18 : Nat → Int32} {post : St1 → Prop} {N q x : Nat} (hU : ∀ n m, n < 28 → m < 28 → sl_bit (a10 n) m → a9 m ≠ 0 ∧ sl_rk m < sl_rk n) (hq : q < 100) (hx : x = q ∨ x = q + 1) (h : sl_Q a9 a10 x N a12 a13)
    (H : ∀ N' b12 b13, sl_Q a9 a10 (q + 1) N' b12 b13 → post (fc, fe, fr, nI N', fv, a1, a2, a3, a4, a5, a6, a7, a8, a9, a10, a11, b12, b13, a14, a15, a16, a17, a18)) : wpX_issueOne post (fc, fe, fr, nI N, fv, a1, a2, a3, a4, a5, a6, a7, a8, a9, a10, a11, a12, a13, a14, a15, a16, a17, a18) (nI q) := by
  refine sl_issueOne (fun b hb hm => sl_C_lt h.1 hb hm) (fun hno => H N a12 a13 ?_) (fun b hb hm => H _ _ _ (sl_Q_add h hb hm hq (by omega) (by omega)))
  rcases hx with rfl | rfl
  · exact sl_Q_no h hU hno hq
  · exact h
theorem sl_s23 {fc fe fr fv : Int32} {a1 a2 a3 a4 a5 a6 a7 a8 a9 a10 a11 a12 a13 a14 a15 a16 a17 a18 : Nat → Int32} {post : St1 → Prop} (hU : ∀ n m, n < 28 → m < 28 → sl_bit (a10 n) m → a9 m ≠ 0 ∧ sl_rk m < sl_rk n) (h : sl_Q a9 a10 0 0 a12 a13)
    (H : ∀ N b12 b13, sl_Q a9 a10 100 N b12 b13 → post (fc, fe, 1, nI N, fv, a1, a2, a3, a4, a5, a6, a7, a8, a9, a10, a11, b12, b13, a14, a15, a16, a17, a18)) : ∃ n, wX_schedule_23 post n 0 fc fe fr 0 fv a1 a2 a3 a4 a5 a6 a7 a8 a9 a10 a11 a12 a13 a14 a15 a16 a17 a18 := by
  refine pk_loop (fun n q (s : Nat × (Nat → Int32) × (Nat → Int32)) => wX_schedule_23 post n (nI q) fc fe fr (nI s.1) fv a1 a2 a3 a4 a5 a6 a7 a8 a9 a10 a11 s.2.1 s.2.2 a14 a15 a16 a17 a18) (fun q s => sl_Q a9 a10 q s.1 s.2.1 s.2.2) 100 0 (0, a12, a13) (by omega) h ?_ ?_
  · intro n s h
    exact pk_le 100 100 (fun _ => H _ _ _ h) (fun z => absurd z (by omega))
  · intro n q s hq h hw
    refine pk_le 100 q (fun z => absurd z (by omega)) (fun _ => ?_)
    exact sl_issueQ hU hq (.inl rfl) h (fun N' b12 b13 h' => sl_issueQ hU hq (.inr rfl) h' (fun N2 c12 c13 h2 => nm_r (nI_1 q) (hw (N2, c12, c13) h2)))
theorem sl_schedule {fe fr fl fv : Int32} {a1 a2 a3 a4 a5 a6 a7 a8 a9 a10 a11 a12 a13 a14 a15 a16 a17 a18 : Nat → Int32} {post : St1 → Prop} {c : Nat} (hc : c ≤ 14) (h : fr = 0 ∨ sl_Sch c a1 a2 a3 a4 fl a13 a14)
    (H : ∀ gr gl b9 b10 b11 b12 b13 b14, sl_Sch c a1 a2 a3 a4 gl b13 b14 → post (nI c, fe, gr, gl, fv, a1, a2, a3, a4, a5, a6, a7, a8, b9, b10, b11, b12, b13, b14, a15, a16, a17, a18)) : wpX_schedule post (nI c, fe, fr, fl, fv, a1, a2, a3, a4, a5, a6, a7, a8, a9, a10, a11, a12, a13, a14, a15, a16, a17, a18) := by
  refine br_c (fun _ => ?_) (fun z => ?_)
  · refine sl_orderAll hc (fun b9 b10 b11 b12 b14 ho h12 => sl_measure (fun b11' => ?_))
    have hU : ∀ n m, n < 28 → m < 28 → sl_bit (b10 n) m → b9 m ≠ 0 ∧ sl_rk m < sl_rk n := by
      intro n m hn hm hb
      obtain ⟨_, u2, u3⟩ := ho.2.1 n m hn hm hb
      exact ⟨fun z => (ho.1 m hm).mp z u2, u3⟩
    exact sl_s23 hU ⟨sl_C_0 h12, .inr (by omega)⟩ (fun N c12 c13 hq => H _ _ _ _ _ _ _ _ (sl_fin hc ho hq))
  · rcases h with h | h
    · exact absurd h z
    · exact H _ _ _ _ _ _ _ _ h
end
section
/-! ===== the walk of one operation ===== -/
theorem sl_faults {fc fe fr fl fv : Int32} {a1 a2 a3 a4 a5 a6 a7 a8 a9 a10 a11 a12 a13 a14 a15 a16 a17 a18 : Nat → Int32} {post : Int32 → Prop} {x : Int32} (h0 : sl_fa a8 x = 0 → post 0) (h1 : sl_fa a8 x ≠ 0 → post 1) : wpX_faults post (fc, fe, fr, fl, fv, a1, a2, a3, a4, a5, a6, a7, a8, a9, a10, a11, a12, a13, a14, a15, a16, a17, a18) x := by
  unfold wpX_faults
  dsimp only
  refine br_c (fun z => br_f (by decide) (h1 ?_)) (fun z => br_c (fun y => br_t rfl ⟨?_, br_c (fun e => h0 ?_) (fun e => h1 ?_)⟩) (fun y => br_f (by decide) (h1 ?_)))
  · unfold sl_fa
    rw [if_pos z]
    decide
  · obtain ⟨t, ht, rfl⟩ := nI_of2 (n := 15) (M := 15) (by decide) z y
    exact pk_in t 16 (by omega)
  · unfold sl_fa
    rw [if_neg z, if_pos y, if_pos e]
  · unfold sl_fa
    rw [if_neg z, if_pos y, if_neg e]
    decide
  · unfold sl_fa
    rw [if_neg z, if_neg y]
    decide
theorem sl_watch {fc fe fr fl : Int32} {a1 a2 a3 a4 a5 a6 a7 a8 a9 a10 a11 a12 a13 a14 a15 a16 a17 a18 : Nat → Int32} {post : St1 → Prop} {v : Nat} {p0 p1 : Int32} (hv : v < 4) (H : ∀ v', v' < 4 → post (fc, fe, fr, fl, nI v', a1, a2, a3, a4, a5, a6, a7, a8, a9, a10, a11, a12, a13, a14, a15, a16, upd a17 v p0, upd a18 v p1)) : wpX_watch post (fc, fe, fr, fl, nI v, a1, a2, a3, a4, a5, a6, a7, a8, a9, a10, a11, a12, a13, a14, a15, a16, a17, a18) p0 p1 :=
  ⟨pk_in v 4 hv, nm_r (e' := upd a17 v p0) (by rw [nI_clamp (by omega)]) ⟨pk_in v 4 hv, nm_r (e' := upd a18 v p1) (by rw [nI_clamp (by omega)]) (pk_eq (v + 1) 4 (fun _ => H 0 (by omega)) (fun z => nm_r (nI_1 v) (H (v + 1) (by omega))) (nI_1 v))⟩⟩
theorem sl_stored {fc fe fr fl fv : Int32} {a1 a2 a3 a4 a5 a6 a7 a8 a9 a10 a11 a12 a13 a14 a15 a16 a17 a18 : Nat → Int32} {post : St1 → Prop} {x : Int32} (H : ∀ s, (∀ w, w < 4 → s w = -1 ∨ (s w = a17 w ∧ ¬ a18 w = x)) → post (fc, fe, fr, fl, fv, a1, a2, a3, a4, a5, a6, a7, a8, a9, a10, a11, a12, a13, a14, a15, a16, s, a18)) : wpX_stored post (fc, fe, fr, fl, fv, a1, a2, a3, a4, a5, a6, a7, a8, a9, a10, a11, a12, a13, a14, a15, a16, a17, a18) x := by
  refine pk_loop (fun n i s => wX_stored_2 post x fc fe fr fl fv n (nI i) a1 a2 a3 a4 a5 a6 a7 a8 a9 a10 a11 a12 a13 a14 a15 a16 s a18) (fun i s => ∀ w, (w < i → s w = -1 ∨ (s w = a17 w ∧ ¬ a18 w = x)) ∧ (i ≤ w → s w = a17 w)) 4 0 a17 (by omega) (fun w => ⟨fun z => absurd z (by omega), fun _ => rfl⟩) ?_ ?_
  · intro n s h
    exact pk_le 4 4 (fun _ => H s (fun w hw => (h w).1 hw)) (fun z => absurd z (by omega))
  · intro n i s hi h hw
    refine pk_le 4 i (fun z => absurd z (by omega)) (fun _ => ⟨pk_in i 4 hi, br_c (fun e => ⟨pk_in i 4 hi, nm_r (e' := upd s i (-1)) (by rw [nI_clamp (by omega)]) (nm_r (nI_1 i) (hw _ (fun w => ?_)))⟩) (fun e => nm_r (nI_1 i) (hw s (fun w => ?_)))⟩)
    · by_cases ew : w = i
      · rw [ew, pk_us]
        exact ⟨fun _ => .inl rfl, fun z => absurd z (by omega)⟩
      · rw [pk_un ew]
        exact ⟨fun z => (h w).1 (by omega), fun z => (h w).2 (by omega)⟩
    · rw [nI_clamp (by omega)] at e
      refine ⟨fun z => ?_, fun z => (h w).2 (by omega)⟩
      by_cases ew : w = i
      · rw [ew]
        exact .inr ⟨(h i).2 (by omega), e⟩
      · exact (h w).1 (by omega)
theorem sl_stillWatched {fc fe fr fl fv : Int32} {a1 a2 a3 a4 a5 a6 a7 a8 a9 a10 a11 a12 a13 a14 a15 a16 a17 a18 : Nat → Int32} {post : Int32 → Prop} {x1 x2 : Int32} (h0 : post 0) (h1 : ∀ w, w < 4 → a17 w = x1 → a18 w = x2 → post 1) : wpX_stillWatched post (fc, fe, fr, fl, fv, a1, a2, a3, a4, a5, a6, a7, a8, a9, a10, a11, a12, a13, a14, a15, a16, a17, a18) x1 x2 := by
  refine pk_loop (fun n i s => wX_stillWatched_5 post x1 x2 fc fe fr fl fv a1 a2 a3 a4 a5 a6 a7 a8 a9 a10 a11 a12 a13 a14 a15 a16 a17 a18 n s (nI i)) (fun _ s => s = 0 ∨ (s = 1 ∧ ∃ w, w < 4 ∧ a17 w = x1 ∧ a18 w = x2)) 4 0 0 (by omega) (.inl rfl) ?_ ?_
  · intro n s h
    refine pk_le 4 4 (fun _ => ?_) (fun z => absurd z (by omega))
    rcases h with rfl | ⟨rfl, w, hw, e1, e2⟩
    · exact ⟨sl_bool0, h0⟩
    · exact ⟨sl_bool1, h1 w hw e1 e2⟩
  · intro n i s hi h hw
    refine pk_le 4 i (fun z => absurd z (by omega)) (fun _ => ⟨pk_in i 4 hi, br_c (fun e1 => ⟨pk_in i 4 hi, br_c (fun e2 => nm_r (nI_1 i) (hw 1 (.inr ⟨rfl, i, hi, ?_, ?_⟩))) (fun _ => nm_r (nI_1 i) (hw s h))⟩) (fun _ => nm_r (nI_1 i) (hw s h))⟩)
    · rw [nI_clamp (by omega)] at e1
      exact e1
    · rw [nI_clamp (by omega)] at e2
      exact e2
theorem sl_check {fc fe fr fl fv : Int32} {a1 a2 a3 a4 a5 a6 a7 a8 a9 a10 a11 a12 a13 a14 a15 a16 a17 a18 : Nat → Int32} {post : Int32 → St1 → Prop} {j l d : Nat} {E : Nat → Prop} (hj : j < 14) (hl : l < 8) (hd : d < 8) (el : a3 j = nI l) (ed : a2 j = nI d) (hw : sl_Wt a8 a7 a15 a17 a18 E)
    (h0 : sl_fa a8 (a6 l + a5 j) ≠ 0 → post 0 (fc, fe, fr, fl, fv, a1, a2, a3, a4, a5, a6, a7, a8, a9, a10, a11, a12, a13, a14, a15, a16, a17, a18)) (h1 : sl_fa a8 (a6 l + a5 j) = 0 → post 1 (fc, fe, fr, fl, fv, a1, a2, a3, a4, a5, upd a6 d (a7 (a6 l + a5 j).toNatClampNeg), a7, a8, a9, a10, a11, a12, a13, a14, a15, a16, a17, a18)) : wpX_check post (fc, fe, fr, fl, fv, a1, a2, a3, a4, a5, a6, a7, a8, a9, a10, a11, a12, a13, a14, a15, a16, a17, a18) (nI j) := by
  have real : wX_check_42 post (nI j) (a6 l + a5 j) 0 fc fe fr fl fv a1 a2 a3 a4 a5 a6 a7 a8 a9 a10 a11 a12 a13 a14 a15 a16 a17 a18 := by
    refine br_t rfl (sl_faults (fun z => br_t rfl ⟨pk_in j 14 hj, ?_, ?_, nm_r (e' := upd a6 d (a7 (a6 l + a5 j).toNatClampNeg)) ?_ (h1 z)⟩) (fun z => br_f (by decide) (h0 z)))
    · obtain ⟨y, hy, e, _⟩ := sl_fa_0 z
      exact pk_in y 16 hy e
    · rw [nI_clamp (by omega), ed]
      exact pk_in d 8 hd
    · rw [nI_clamp (by omega), ed, nI_clamp (by omega)]
  unfold wpX_check
  dsimp only
  rw [nI_clamp (show j < 2 ^ 31 by omega), el, nI_clamp (show l < 2 ^ 31 by omega)]
  refine ⟨pk_in j 14 hj, pk_in l 8 hl, pk_in j 14 hj, nm_e ⟨pk_in j 14 hj, br_c (fun _ => real) (fun _ => sl_stillWatched (br_t rfl real) (fun w hw4 e1 e2 => br_f (by decide) ?_))⟩⟩
  rcases hw w hw4 with z | ⟨i, y, hi, hy, g1, g2, g3, g4, _⟩
  · exact absurd (e1 ▸ z) (sl_m1n (by omega))
  · have ei : i = j := sl_inj (by omega) (by omega) (by rw [← g1, e1])
    subst ei
    have ex : a6 l + a5 i = nI y := by rw [← e2, g2]
    have fa : sl_fa a8 (a6 l + a5 i) = 0 := by
      rw [ex]
      exact sl_fa_t hy g3
    have h1' := h1 fa
    rw [ex, nI_clamp (by omega), ← g4] at h1'
    refine br_f (by decide) ⟨pk_in i 14 hj, pk_in i 14 hj, ?_, nm_r (e' := upd a6 d (a15 i)) ?_ h1'⟩
    · rw [nI_clamp (by omega), ed]
      exact pk_in d 8 hd
    · rw [nI_clamp (by omega), ed, nI_clamp (by omega)]
theorem sl_wt_store {B M E15 W17 W18 s : Nat → Int32} {E : Nat → Prop} {y : Nat} {v : Int32} (hy : y < 16) (h : sl_Wt B M E15 W17 W18 E) (hs : ∀ w, w < 4 → s w = -1 ∨ (s w = W17 w ∧ ¬ W18 w = nI y)) : sl_Wt B (upd M y v) E15 s W18 E := by
  intro w hw
  rcases hs w hw with z | ⟨z, z2⟩
  · exact .inl z
  · rcases h w hw with g | ⟨i, x, hi, hx, g1, g2, g3, g4, g5⟩
    · exact .inl (by rw [z, g])
    · refine .inr ⟨i, x, hi, hx, by rw [z, g1], g2, g3, ?_, g5⟩
      rw [pk_un (fun e => z2 (by rw [g2, e]))]
      exact g4
theorem sl_storeAt {fc fe fr fl fv : Int32} {a1 a2 a3 a4 a5 a6 a7 a8 a9 a10 a11 a12 a13 a14 a15 a16 a17 a18 : Nat → Int32} {post : Int32 → St1 → Prop} {j l r : Nat} {E : Nat → Prop} (hj : j < 14) (hl : l < 8) (hr : r < 8) (el : a3 j = nI l) (er : a4 j = nI r) (hw : sl_Wt a8 a7 a15 a17 a18 E)
    (h0 : sl_fa a8 (a6 l + a5 j) ≠ 0 → post 0 (fc, fe, fr, fl, fv, a1, a2, a3, a4, a5, a6, a7, a8, a9, a10, a11, a12, a13, a14, a15, a16, a17, a18))
    (h1 : sl_fa a8 (a6 l + a5 j) = 0 → ∀ s, sl_Wt a8 (upd a7 (a6 l + a5 j).toNatClampNeg (a6 r)) a15 s a18 E → post 1 (fc, fe, fr, fl, fv, a1, a2, a3, a4, a5, a6, upd a7 (a6 l + a5 j).toNatClampNeg (a6 r), a8, a9, a10, a11, a12, a13, a14, a15, a16, s, a18)) : wpX_storeAt post (fc, fe, fr, fl, fv, a1, a2, a3, a4, a5, a6, a7, a8, a9, a10, a11, a12, a13, a14, a15, a16, a17, a18) (nI j) := by
  unfold wpX_storeAt
  dsimp only
  rw [nI_clamp (show j < 2 ^ 31 by omega), el, nI_clamp (show l < 2 ^ 31 by omega), er, nI_clamp (show r < 2 ^ 31 by omega)]
  refine ⟨pk_in j 14 hj, pk_in l 8 hl, pk_in j 14 hj, nm_e (sl_faults (fun z => br_t rfl ⟨pk_in j 14 hj, pk_in r 8 hr, ?_, nm_e (sl_stored (fun s hs => h1 z s ?_))⟩) (fun z => br_f (by decide) (h0 z)))⟩
  · obtain ⟨y, hy, e, _⟩ := sl_fa_0 z
    exact pk_in y 16 hy e
  · obtain ⟨y, hy, e, _⟩ := sl_fa_0 z
    rw [e] at hs ⊢
    rw [nI_clamp (by omega)]
    exact sl_wt_store hy hw hs
theorem sl_le52 {fc fe fr fl : Int32} {a1 a2 a3 a4 a5 a6 a7 a8 a9 a10 a11 a12 a13 a14 a15 a16 a17 a18 : Nat → Int32} {post : St1 → Prop} {i v : Nat} {z0 : Int32} (hi : i < 14) (hv : v < 4) (H0 : post (fc, fe, fr, fl, nI v, a1, a2, a3, a4, a5, a6, a7, a8, a9, a10, a11, a12, a13, a14, a15, a16, a17, a18))
    (H1 : ∀ s16 y v', y < 16 → a8 y = 0 → v' < 4 → post (fc, fe, fr, fl, nI v', a1, a2, a3, a4, a5, a6, a7, a8, a9, a10, a11, a12, a13, a14, upd a15 i (a7 y), s16, upd a17 v (nI i), upd a18 v (nI y))) : wX_loadEarly_52 post (nI i) z0 fc fe fr fl (nI v) a1 a2 a3 a4 a5 a6 a7 a8 a9 a10 a11 a12 a13 a14 a15 a16 a17 a18 := by
  refine ⟨pk_in i 14 hi, nm_e (sl_faults (fun z => br_t rfl ?_) (fun z => br_f (by decide) H0))⟩
  obtain ⟨y, hy, e, g⟩ := sl_fa_0 z
  refine ⟨pk_in i 14 hi, nm_e ⟨pk_in y 16 hy e, pk_in i 14 hi, nm_r (e' := upd a15 i (a7 y)) ?_ ?_⟩⟩
  · rw [e, nI_clamp (by omega), nI_clamp (by omega)]
  · rw [e]
    exact sl_watch hv (fun v' hv' => H1 _ y v' hy g hv')
theorem sl_loadEarly {fc fe fr fl : Int32} {a1 a2 a3 a4 a5 a6 a7 a8 a9 a10 a11 a12 a13 a14 a15 a16 a17 a18 : Nat → Int32} {post : St1 → Prop} {i l v : Nat} (hi : i < 14) (hv : v < 4) (hl : l < 8) (el : a3 i = nI l) (es : a14 i = -1 ∨ ∃ w, w < 14 ∧ a14 i = nI w) (H0 : ∀ s16, post (fc, fe, fr, fl, nI v, a1, a2, a3, a4, a5, a6, a7, a8, a9, a10, a11, a12, a13, a14, a15, s16, a17, a18))
    (H1 : ∀ s16 y v', y < 16 → a8 y = 0 → v' < 4 → post (fc, fe, fr, fl, nI v', a1, a2, a3, a4, a5, a6, a7, a8, a9, a10, a11, a12, a13, a14, upd a15 i (a7 y), s16, upd a17 v (nI i), upd a18 v (nI y))) : wpX_loadEarly post (fc, fe, fr, fl, nI v, a1, a2, a3, a4, a5, a6, a7, a8, a9, a10, a11, a12, a13, a14, a15, a16, a17, a18) (nI i) := by
  unfold wpX_loadEarly
  dsimp only
  rw [nI_clamp (show i < 2 ^ 31 by omega)]
  rcases es with es | ⟨w, hw, es⟩
  · refine ⟨pk_in i 14 hi, nm_r es ⟨pk_in i 14 hi, nm_e (br_t sl_m1 (br_t sl_m1 ⟨pk_in i 14 hi, ?_, sl_le52 hi hv (H0 _) H1⟩))⟩⟩
    rw [nI_clamp (by omega), el]
    exact pk_in l 8 hl
  · exact ⟨pk_in i 14 hi, nm_r es ⟨pk_in i 14 hi, nm_e (br_f (nI_pos (by omega)) ⟨pk_in w 14 hw, br_c (fun _ => H0 _) (fun _ => br_f (nI_pos (by omega)) ⟨pk_in w 14 hw, sl_le52 hi hv (H0 _) H1⟩)⟩)⟩⟩
theorem sl_execE {fc fe fr fl : Int32} {a1 a2 a3 a4 a5 a6 a7 a8 a9 a10 a11 a12 a13 a14 a15 a16 a17 a18 : Nat → Int32} {post : Int32 → St1 → Prop} {i l v : Nat} (hi : i < 14) (hv : v < 4) (hl : l < 8) (el : a3 i = nI l) (es : a14 i = -1 ∨ ∃ w, w < 14 ∧ a14 i = nI w) (H0 : ∀ s16, post (-1) (fc, fe, fr, fl, nI v, a1, a2, a3, a4, a5, a6, a7, a8, a9, a10, a11, a12, a13, a14, a15, s16, a17, a18))
    (H1 : ∀ s16 y v', y < 16 → a8 y = 0 → v' < 4 → post (-1) (fc, fe, fr, fl, nI v', a1, a2, a3, a4, a5, a6, a7, a8, a9, a10, a11, a12, a13, a14, upd a15 i (a7 y), s16, upd a17 v (nI i), upd a18 v (nI y))) : wpX_execute post (fc, fe, fr, fl, nI v, a1, a2, a3, a4, a5, a6, a7, a8, a9, a10, a11, a12, a13, a14, a15, a16, a17, a18) (nI (14 + i)) := by
  refine pk_lt (14 + i) 14 (fun z => absurd z (by omega)) (fun _ => ?_)
  have e : nI (14 + i) - 14 = nI i := by
    rw [show nI (14 + i) - 14 = nI (14 + i) - nI 14 from rfl, pk_sub (by omega), Nat.add_sub_cancel_left]
  rw [e]
  exact sl_loadEarly hi hv hl el es H0 H1
theorem sl_exec {fc fe fr fl fv : Int32} {a1 a2 a3 a4 a5 a6 a7 a8 a9 a10 a11 a12 a13 a14 a15 a16 a17 a18 : Nat → Int32} {post : Int32 → St1 → Prop} {j : Nat} {E : Nat → Prop} (hj : j < 14) (hv : sl_Iv (a1 j) (a2 j) (a3 j) (a4 j)) (hw : sl_Wt a8 a7 a15 a17 a18 E)
    (h0 : sl_ex (a1 j) (a3 j) (a5 j) a8 a6 ≠ 0 → post (sl_ex (a1 j) (a3 j) (a5 j) a8 a6 + 4 * nI j) (fc, fe, fr, fl, fv, a1, a2, a3, a4, a5, a6, a7, a8, a9, a10, a11, a12, a13, a14, a15, a16, a17, a18))
    (h1 : sl_ex (a1 j) (a3 j) (a5 j) a8 a6 = 0 → ∀ s, sl_Wt a8 (sl_nM (a1 j) (a3 j) (a4 j) (a5 j) a6 a7) a15 s a18 E → post (-1) (fc, fe, fr, fl, fv, a1, a2, a3, a4, a5, sl_nR (a1 j) (a2 j) (a3 j) (a4 j) (a5 j) a6 a7, sl_nM (a1 j) (a3 j) (a4 j) (a5 j) a6 a7, a8, a9, a10, a11, a12, a13, a14, a15, a16, s, a18)) : wpX_execute post (fc, fe, fr, fl, fv, a1, a2, a3, a4, a5, a6, a7, a8, a9, a10, a11, a12, a13, a14, a15, a16, a17, a18) (nI j) := by
  have cl : (nI j).toNatClampNeg = j := nI_clamp (by omega)
  refine pk_lt j 14 (fun _ => ⟨pk_in j 14 hj, ?_⟩) (fun z => absurd z (by omega))
  rw [cl]
  rcases hv with ⟨k, d, hd, ed⟩ | ⟨k, ⟨d, hd, ed⟩, ⟨l, hl, el⟩, ⟨r, hr, er⟩⟩ | ⟨k, ⟨d, hd, ed⟩, ⟨l, hl, el⟩⟩ | ⟨k, ⟨l, hl, el⟩, ⟨r, hr, er⟩⟩ | ⟨k, ⟨l, hl, el⟩⟩
  · rw [k] at h0 h1
    have q1 : sl_ex 0 (a3 j) (a5 j) a8 a6 = 0 := rfl
    have q2 : sl_nR 0 (a2 j) (a3 j) (a4 j) (a5 j) a6 a7 = upd a6 d (a5 j) := by
      rw [ed]
      unfold sl_nR sl_va
      rw [if_neg (by decide), if_neg (by decide), if_pos rfl, nI_clamp (by omega)]
    have q3 : sl_nM 0 (a3 j) (a4 j) (a5 j) a6 a7 = a7 := rfl
    have h := h1 q1
    rw [q2, q3] at h
    refine nm_r k (br_f (by decide) (br_f (by decide) (br_f (by decide) (br_t rfl ⟨pk_in j 14 hj, pk_in j 14 hj, ?_, ?_⟩))))
    · rw [ed]
      exact pk_in d 8 hd
    · exact nm_r (by rw [ed, nI_clamp (by omega)]) (h a17 hw)
  · have lo : (a3 j).toNatClampNeg = l := by rw [el, nI_clamp (by omega)]
    have ro : (a4 j).toNatClampNeg = r := by rw [er, nI_clamp (by omega)]
    have di : (a2 j).toNatClampNeg = d := by rw [ed, nI_clamp (by omega)]
    have vl : vp_in (a3 j) 8 := pk_in l 8 hl el
    have vr : vp_in (a4 j) 8 := pk_in r 8 hr er
    have vd : vp_in (a2 j) 8 := pk_in d 8 hd ed
    rcases k with k | k
    · rw [k] at h0 h1
      have q1 : sl_ex 1 (a3 j) (a5 j) a8 a6 = 0 := rfl
      have q2 : sl_nR 1 (a2 j) (a3 j) (a4 j) (a5 j) a6 a7 = upd a6 (a2 j).toNatClampNeg (a6 (a3 j).toNatClampNeg + a6 (a4 j).toNatClampNeg) := rfl
      have q3 : sl_nM 1 (a3 j) (a4 j) (a5 j) a6 a7 = a7 := rfl
      have h := h1 q1
      rw [q2, q3] at h
      exact nm_r k (br_f (by decide) (br_f (by decide) (br_f (by decide) (br_f (by decide) (br_t rfl ⟨pk_in j 14 hj, pk_in j 14 hj, vl, pk_in j 14 hj, vr, vd, nm_e (h a17 hw)⟩)))))
    · rw [k] at h0 h1
      have q1 : sl_ex 2 (a3 j) (a5 j) a8 a6 = 0 := rfl
      have q2 : sl_nR 2 (a2 j) (a3 j) (a4 j) (a5 j) a6 a7 = upd a6 (a2 j).toNatClampNeg (a6 (a3 j).toNatClampNeg - a6 (a4 j).toNatClampNeg) := rfl
      have q3 : sl_nM 2 (a3 j) (a4 j) (a5 j) a6 a7 = a7 := rfl
      have h := h1 q1
      rw [q2, q3] at h
      exact nm_r k (br_f (by decide) (br_f (by decide) (br_f (by decide) (br_f (by decide) (br_f (by decide) ⟨pk_in j 14 hj, pk_in j 14 hj, vl, pk_in j 14 hj, vr, vd, nm_e (h a17 hw)⟩)))))
  · have lo : (a3 j).toNatClampNeg = l := by rw [el, nI_clamp (by omega)]
    have di : (a2 j).toNatClampNeg = d := by rw [ed, nI_clamp (by omega)]
    rw [k] at h0 h1
    have q1 : sl_ex 3 (a3 j) (a5 j) a8 a6 = sl_fa a8 (a6 l + a5 j) := by
      unfold sl_ex
      rw [if_pos (.inl rfl), lo]
    have q2 : sl_nR 3 (a2 j) (a3 j) (a4 j) (a5 j) a6 a7 = upd a6 d (a7 (a6 l + a5 j).toNatClampNeg) := by
      unfold sl_nR sl_va
      rw [if_neg (by decide), if_pos rfl, lo, di]
    have q3 : sl_nM 3 (a3 j) (a4 j) (a5 j) a6 a7 = a7 := rfl
    rw [q1] at h0
    rw [q1, q2, q3] at h1
    refine nm_r k (br_t rfl (sl_check hj hl hd el ed hw (fun z => br_t rfl ?_) (fun z => br_f (by decide) (h1 z a17 hw))))
    have h := h0 z
    rcases sl_fa_v a8 (a6 l + a5 j) with y | y
    · exact absurd y z
    · rw [y] at h
      exact h
  · have lo : (a3 j).toNatClampNeg = l := by rw [el, nI_clamp (by omega)]
    have ro : (a4 j).toNatClampNeg = r := by rw [er, nI_clamp (by omega)]
    rw [k] at h0 h1
    have q1 : sl_ex 4 (a3 j) (a5 j) a8 a6 = sl_fa a8 (a6 l + a5 j) := by
      unfold sl_ex
      rw [if_pos (.inr rfl), lo]
    have q2 : sl_nR 4 (a2 j) (a3 j) (a4 j) (a5 j) a6 a7 = a6 := rfl
    have q3 : sl_nM 4 (a3 j) (a4 j) (a5 j) a6 a7 = upd a7 (a6 l + a5 j).toNatClampNeg (a6 r) := by
      unfold sl_nM
      rw [if_pos rfl, lo, ro]
    rw [q1] at h0
    rw [q1, q2, q3] at h1
    refine nm_r k (br_f (by decide) (br_t rfl (sl_storeAt hj hl hr el er hw (fun z => br_t rfl ?_) (fun z s hs => br_f (by decide) (h1 z s hs)))))
    have h := h0 z
    rcases sl_fa_v a8 (a6 l + a5 j) with y | y
    · exact absurd y z
    · rw [y] at h
      exact h
  · have lo : (a3 j).toNatClampNeg = l := by rw [el, nI_clamp (by omega)]
    rw [k] at h0 h1
    have q2 : sl_nR 5 (a2 j) (a3 j) (a4 j) (a5 j) a6 a7 = a6 := rfl
    have q3 : sl_nM 5 (a3 j) (a4 j) (a5 j) a6 a7 = a7 := rfl
    rw [q2, q3] at h1
    refine nm_r k (br_f (by decide) (br_f (by decide) (br_t rfl ⟨pk_in j 14 hj, pk_in l 8 hl el, br_c (fun z => h1 ?_ a17 hw) (fun z => ?_)⟩)))
    · unfold sl_ex
      rw [if_neg (by decide), if_pos rfl, if_pos z]
    · have q1 : sl_ex 5 (a3 j) (a5 j) a8 a6 = 1 := by
        unfold sl_ex
        rw [if_neg (by decide), if_pos rfl, if_neg z]
      rw [q1] at h0
      exact h0 (by decide)
end
section
/-! ===== the walk of run ===== -/
theorem sl_wt_D {B M E15 W17 W18 : Nat → Int32} {E E' : Nat → Prop} (h : sl_Wt B M E15 W17 W18 E) (e : ∀ i, E i → E' i) : sl_Wt B M E15 W17 W18 E' := by
  intro w hw
  rcases h w hw with z | ⟨i, x, hi, hx, g1, g2, g3, g4, g5⟩
  · exact .inl z
  · exact .inr ⟨i, x, hi, hx, g1, g2, g3, g4, e i g5⟩
theorem sl_wt_new {B M E15 W17 W18 : Nat → Int32} {E E' : Nat → Prop} {i y v : Nat} (hi : i < 14) (hy : y < 16) (hb : B y = 0) (h : sl_Wt B M E15 W17 W18 E) (hn : ¬ E i) (e : ∀ k, E k → E' k) (ei : E' i) :
    sl_Wt B M (upd E15 i (M y)) (upd W17 v (nI i)) (upd W18 v (nI y)) E' := by
  intro w hw
  by_cases ew : w = v
  · rw [ew, pk_us, pk_us]
    exact .inr ⟨i, y, hi, hy, rfl, rfl, hb, pk_us, ei⟩
  · rw [pk_un ew, pk_un ew]
    rcases h w hw with z | ⟨k, x, hk, hx, g1, g2, g3, g4, g5⟩
    · exact .inl z
    · refine .inr ⟨k, x, hk, hx, g1, g2, g3, ?_, e k g5⟩
      rw [pk_un (fun z : k = i => hn (by rw [← z]; exact g5))]
      exact g4
theorem sl_dn {a13 : Nat → Int32} {k i : Nat} : (∃ k', k' < k + 1 ∧ a13 k' = nI i) ↔ ((∃ k', k' < k ∧ a13 k' = nI i) ∨ a13 k = nI i) := by
  constructor
  · rintro ⟨k', hk, e⟩
    by_cases z : k' = k
    · rw [z] at e
      exact .inr e
    · exact .inl ⟨k', by omega, e⟩
  · rintro (⟨k', hk, e⟩ | e)
    · exact ⟨k', by omega, e⟩
    · exact ⟨k, by omega, e⟩
theorem sl_r40 {fe fr fl : Int32} {a1 a2 a3 a4 a5 a6 a7 a8 a9 a10 a11 a12 a13 a14 a15 a16 a17 a18 : Nat → Int32} {post : Int32 → St1 → Prop} {c : Nat} (hv : sl_Pv c a1 a2 a3 a4) (hS : sl_Sch c a1 a2 a3 a4 fl a13 a14) (h17 : ∀ w, w < 4 → a17 w = -1)
    (H : ∀ gv b15 b16 b17 b18, post (sl_go a1 a2 a3 a4 a5 a8 a6 a7 c).1 (nI c, (sl_go a1 a2 a3 a4 a5 a8 a6 a7 c).1, fr, fl, gv, a1, a2, a3, a4, a5, (sl_go a1 a2 a3 a4 a5 a8 a6 a7 c).2.1, (sl_go a1 a2 a3 a4 a5 a8 a6 a7 c).2.2, a8, a9, a10, a11, a12, a13, a14, b15, b16, b17, b18)) :
    ∃ n, wX_run_40 post n (-1) 0 (nI c) fe fr fl 0 a1 a2 a3 a4 a5 a6 a7 a8 a9 a10 a11 a12 a13 a14 a15 a16 a17 a18 := by
  obtain ⟨N, hN, rfl, s3, s4, s5, s6, s7⟩ := hS
  have hc := hv.1
  refine pk_loop (fun n k (s : Int32 × Nat × (Nat → Int32) × (Nat → Int32) × (Nat → Int32) × (Nat → Int32) × (Nat → Int32) × (Nat → Int32)) =>
      wX_run_40 post n s.1 (nI k) (nI c) fe fr (nI N) (nI s.2.1) a1 a2 a3 a4 a5 s.2.2.1 s.2.2.2.1 a8 a9 a10 a11 a12 a13 a14 s.2.2.2.2.1 s.2.2.2.2.2.1 s.2.2.2.2.2.2.1 s.2.2.2.2.2.2.2)
    (fun k s => s.2.1 < 4 ∧ ((s.1 = -1 ∧ sl_RI c a1 a2 a3 a4 a5 a8 a6 a7 (fun i => ∃ k', k' < k ∧ a13 k' = nI i) s.2.2.1 s.2.2.2.1 ∧ sl_Wt a8 s.2.2.2.1 s.2.2.2.2.1 s.2.2.2.2.2.2.1 s.2.2.2.2.2.2.2 (fun i => ∃ k', k' < k ∧ a13 k' = nI (14 + i)))
      ∨ (¬ s.1 < 0 ∧ sl_go a1 a2 a3 a4 a5 a8 a6 a7 c = (s.1, s.2.2.1, s.2.2.2.1)))) N 0 (-1, 0, a6, a7, a15, a16, a17, a18) (by omega)
    ⟨(show 0 < 4 by decide), .inl ⟨rfl, sl_RI_0 (fun j ⟨k', z, _⟩ => absurd z (by omega)), fun w hw => .inl (h17 w hw)⟩⟩ ?_ ?_
  · rintro n ⟨x, v, b6, b7, b15, b16, b17, b18⟩ ⟨hv4, h⟩
    refine pk_le N N (fun _ => ?_) (fun z => absurd z (by omega))
    rcases h with ⟨e, h, _⟩ | ⟨e, h⟩
    · have e' : x = -1 := e
      subst e'
      have g := sl_end h (fun j hj => s4 j hj)
      have H' := H (nI v) b15 b16 b17 b18
      rw [g] at H'
      exact br_f (show ¬ (0 : Int32) ≤ -1 by decide) H'
    · have H' := H (nI v) b15 b16 b17 b18
      rw [h] at H'
      exact br_t (Int32.not_lt.mp e) H'
  · rintro n k ⟨x, v, b6, b7, b15, b16, b17, b18⟩ hk ⟨hv4, h⟩ hw
    refine pk_le N k (fun z => absurd z (by omega)) (fun _ => ?_)
    rcases h with ⟨e, h, ht⟩ | ⟨e, h⟩
    · have e' : x = -1 := e
      subst e'
      refine br_f (show ¬ (0 : Int32) ≤ -1 by decide) ⟨pk_in k 28 (by omega), ?_⟩
      rw [nI_clamp (by omega)]
      obtain ⟨o, ho, eo, us⟩ := s3 k hk
      rw [eo]
      rcases us with us | ⟨u1, u2, u3⟩
      · have at' := sl_at_of hc s5 s6 hk us eo
        have ne : ∀ i, i < 14 → ¬ a13 k = nI (14 + i) := fun i hi z => by
          have := sl_inj (by omega) (by omega) (eo.symm.trans z)
          omega
        refine sl_exec (by omega) (hv.2 o us) ht (fun z => ?_) (fun z s hs => ?_)
        · exact nm_r (nI_1 k) (hw (_, v, b6, b7, b15, b16, b17, b18) ⟨hv4, .inr ⟨(sl_cd (by omega) z).2, sl_stop hv h at' z⟩⟩)
        · refine nm_r (nI_1 k) (hw (-1, v, _, _, b15, b16, s, b18) ⟨hv4, .inl ⟨rfl, sl_RI_c hc (sl_step hv h at' z) (fun i hi => ?_), sl_wt_D hs (fun i hi => sl_dn.mpr (.inl hi))⟩⟩)
          rw [sl_dn]
          refine or_congr Iff.rfl ⟨fun z => sl_inj (by omega) (by omega) (z.symm.trans eo), fun z => by rw [eo, z]⟩
      · obtain ⟨i, rfl⟩ : ∃ i, o = 14 + i := ⟨o - 14, by omega⟩
        rw [Nat.add_sub_cancel_left] at u2 u3
        obtain ⟨l, hl, el⟩ := sl_Iv_l (hv.2 i u2) (by rw [u3]; decide)
        have h' : sl_RI c a1 a2 a3 a4 a5 a8 a6 a7 (fun i => ∃ k', k' < k + 1 ∧ a13 k' = nI i) b6 b7 := by
          refine sl_RI_c hc h (fun i' hi' => ?_)
          rw [sl_dn]
          refine ⟨fun z => z.elim id (fun z => ?_), .inl⟩
          have := sl_inj (by omega) (by omega) (z.symm.trans eo)
          omega
        have nd : ¬ ∃ k', k' < k ∧ a13 k' = nI (14 + i) := by
          rintro ⟨k', hk', e'⟩
          have := s5 k' k (by omega) hk (by rw [eo, e'])
          omega
        refine sl_execE (by omega) hv4 hl el (s7 i u2 u3) (fun s16 => ?_) (fun s16 y v' hy hb hv' => ?_)
        · exact nm_r (nI_1 k) (hw (-1, v, b6, b7, b15, s16, b17, b18) ⟨hv4, .inl ⟨rfl, h', sl_wt_D ht (fun i hi => sl_dn.mpr (.inl hi))⟩⟩)
        · exact nm_r (nI_1 k) (hw (-1, v', b6, b7, _, s16, _, _) ⟨hv', .inl ⟨rfl, h', sl_wt_new (by omega) hy hb ht nd (fun i hi => sl_dn.mpr (.inl hi)) (sl_dn.mpr (.inr eo))⟩⟩)
    · have H' := H (nI v) b15 b16 b17 b18
      rw [h] at H'
      exact br_t (Int32.not_lt.mp e) (br_t (Int32.not_lt.mp e) H')
theorem sl_run {fe fr fl fv : Int32} {a1 a2 a3 a4 a5 a6 a7 a8 a9 a10 a11 a12 a13 a14 a15 a16 a17 a18 : Nat → Int32} {post : Int32 → St1 → Prop} {c : Nat} (hv : sl_Pv c a1 a2 a3 a4) (h : fr = 0 ∨ sl_Sch c a1 a2 a3 a4 fl a13 a14)
    (H : ∀ gr gl gv b9 b10 b11 b12 b13 b14 b15 b16 b17 b18, sl_Sch c a1 a2 a3 a4 gl b13 b14 →
      post (sl_go a1 a2 a3 a4 a5 a8 a6 a7 c).1 (nI c, (sl_go a1 a2 a3 a4 a5 a8 a6 a7 c).1, gr, gl, gv, a1, a2, a3, a4, a5, (sl_go a1 a2 a3 a4 a5 a8 a6 a7 c).2.1, (sl_go a1 a2 a3 a4 a5 a8 a6 a7 c).2.2, a8, b9, b10, b11, b12, b13, b14, b15, b16, b17, b18)) :
    wpX_run post (nI c, fe, fr, fl, fv, a1, a2, a3, a4, a5, a6, a7, a8, a9, a10, a11, a12, a13, a14, a15, a16, a17, a18) := by
  unfold wpX_run
  dsimp only
  refine sl_schedule hv.1 h (fun gr gl b9 b10 b11 b12 b13 b14 hS => ?_)
  dsimp only
  refine pk_loop (fun n i (s : (Nat → Int32) × (Nat → Int32)) => wX_run_11 post (nI c) fe gr gl 0 n (nI i) a1 a2 a3 a4 a5 a6 a7 a8 b9 b10 b11 b12 b13 b14 a15 a16 s.1 s.2)
    (fun i s => ∀ w, w < i → s.1 w = -1) 4 0 (a17, a18) (by omega) (fun w hw => absurd hw (by omega)) ?_ ?_
  · intro n s h17
    exact pk_le 4 4 (fun _ => sl_r40 hv hS h17 (fun gv b15 b16 b17 b18 => H _ _ _ _ _ _ _ _ _ _ _ _ _ hS)) (fun z => absurd z (by omega))
  · intro n i s hi h17 hw
    refine pk_le 4 i (fun z => absurd z (by omega)) (fun _ => ⟨pk_in i 4 hi, nm_r (e' := upd s.1 i (-1)) (by rw [nI_clamp (by omega)]) ⟨pk_in i 4 hi, nm_r (e' := upd s.2 i (-1)) (by rw [nI_clamp (by omega)]) (nm_r (nI_1 i) (hw (upd s.1 i (-1), upd s.2 i (-1)) (fun w hw => ?_)))⟩⟩)
    dsimp only
    by_cases e : w = i
    · rw [e, pk_us]
    · rw [pk_un e]
      exact h17 w (by omega)
end
section
/-! ===== an object by its picture ===== -/
abbrev sl_Pic : Type := Nat × (Nat → Int32) × (Nat → Int32) × (Nat → Int32) × (Nat → Int32) × (Nat → Int32) × (Nat → Int32) × (Nat → Int32) × (Nat → Int32)
def sl_Ob (c : Nat) (a1 a2 a3 a4 a5 a6 a7 a8 : Nat → Int32) (u : St1) : Prop :=
  ∃ fe fr fl fv a9 a10 a11 a12 a13 a14 a15 a16 a17 a18, u = (nI c, fe, fr, fl, fv, a1, a2, a3, a4, a5, a6, a7, a8, a9, a10, a11, a12, a13, a14, a15, a16, a17, a18) ∧ (fr = 0 ∨ sl_Sch c a1 a2 a3 a4 fl a13 a14)
def sl_PO (p : sl_Pic) (u : St1) : Prop := sl_Ob p.1 p.2.1 p.2.2.1 p.2.2.2.1 p.2.2.2.2.1 p.2.2.2.2.2.1 p.2.2.2.2.2.2.1 p.2.2.2.2.2.2.2.1 p.2.2.2.2.2.2.2.2 u
def sl_PV (p : sl_Pic) : Prop := sl_Pv p.1 p.2.1 p.2.2.1 p.2.2.2.1 p.2.2.2.2.1
/-- W takes any object of picture p to one of picture p' -/
def sl_Tr (p p' : sl_Pic) (W : (St1 → Prop) → St1 → Prop) : Prop := ∀ u, sl_PO p u → ∀ post : St1 → Prop, (∀ u', sl_PO p' u' → post u') → W post u
/-! append -/
def sl_Ap (post : Int32 → St1 → Prop) (c : Nat) (k d l r v : Int32) (fe fr fl fv : Int32) (a1 a2 a3 a4 a5 a6 a7 a8 a9 a10 a11 a12 a13 a14 a15 a16 a17 a18 : Nat → Int32) : Prop :=
  c ≤ 14 ∧ (c = 14 → post (-2) (nI c, fe, fr, fl, fv, a1, a2, a3, a4, a5, a6, a7, a8, a9, a10, a11, a12, a13, a14, a15, a16, a17, a18)) ∧ (c < 14 → post (nI c) (nI (c + 1), fe, 0, fl, fv, upd a1 c k, upd a2 c d, upd a3 c l, upd a4 c r, upd a5 c v, a6, a7, a8, a9, a10, a11, a12, a13, a14, a15, a16, a17, a18))
theorem sl_append {fe fr fl fv : Int32} {a1 a2 a3 a4 a5 a6 a7 a8 a9 a10 a11 a12 a13 a14 a15 a16 a17 a18 : Nat → Int32} {post : Int32 → St1 → Prop} {c : Nat} {k d l r v : Int32} (h : sl_Ap post c k d l r v fe fr fl fv a1 a2 a3 a4 a5 a6 a7 a8 a9 a10 a11 a12 a13 a14 a15 a16 a17 a18) : wpX_append post (nI c, fe, fr, fl, fv, a1, a2, a3, a4, a5, a6, a7, a8, a9, a10, a11, a12, a13, a14, a15, a16, a17, a18) k d l r v := by
  obtain ⟨hc, h0, h1⟩ := h
  refine pk_eq c 14 (fun z => h0 z) (fun z => ?_)
  have l : c < 14 := by omega
  have cl : (nI c).toNatClampNeg = c := nI_clamp (by omega)
  refine ⟨pk_in c 14 l, nm_r (e' := upd a1 c k) (by rw [cl]) ⟨pk_in c 14 l, nm_r (e' := upd a2 c d) (by rw [cl]) ⟨pk_in c 14 l, nm_r (by rw [cl]) ⟨pk_in c 14 l, nm_r (e' := upd a4 c r) (by rw [cl]) ⟨pk_in c 14 l, nm_r (e' := upd a5 c v) (by rw [cl]) (nm_r (nI_1 c) ?_)⟩⟩⟩⟩⟩
  rw [nI_pred]
  exact h1 l
theorem sl_badReg {fc fe fr fl fv : Int32} {a1 a2 a3 a4 a5 a6 a7 a8 a9 a10 a11 a12 a13 a14 a15 a16 a17 a18 : Nat → Int32} {post : Int32 → Prop} {r : Nat} (hr : r < 8) (h : post 0) : wpX_badReg post (fc, fe, fr, fl, fv, a1, a2, a3, a4, a5, a6, a7, a8, a9, a10, a11, a12, a13, a14, a15, a16, a17, a18) (nI r) :=
  br_f (nI_pos (by omega)) (br_t (nI_le (b := 7) (by omega) (by decide)) h)
theorem sl_badAddr {fc fe fr fl fv : Int32} {a1 a2 a3 a4 a5 a6 a7 a8 a9 a10 a11 a12 a13 a14 a15 a16 a17 a18 : Nat → Int32} {post : Int32 → Prop} {r : Nat} (hr : r < 16) (h : post 0) : wpX_badAddress post (fc, fe, fr, fl, fv, a1, a2, a3, a4, a5, a6, a7, a8, a9, a10, a11, a12, a13, a14, a15, a16, a17, a18) (nI r) :=
  br_f (nI_pos (by omega)) (br_t (nI_le (b := 15) (by omega) (by decide)) h)
theorem sl_constant {fe fr fl fv : Int32} {a1 a2 a3 a4 a5 a6 a7 a8 a9 a10 a11 a12 a13 a14 a15 a16 a17 a18 : Nat → Int32} {post : Int32 → St1 → Prop} {c d : Nat} {v : Int32} (hd : d < 8) (h : sl_Ap post c 0 (nI d) (-1) (-1) v fe fr fl fv a1 a2 a3 a4 a5 a6 a7 a8 a9 a10 a11 a12 a13 a14 a15 a16 a17 a18) : wpX_constant post (nI c, fe, fr, fl, fv, a1, a2, a3, a4, a5, a6, a7, a8, a9, a10, a11, a12, a13, a14, a15, a16, a17, a18) (nI d) v := by
  unfold wpX_constant
  dsimp only
  exact sl_badReg hd (br_t rfl (sl_append ⟨h.1, h.2.1, h.2.2⟩))
theorem sl_leave {fe fr fl fv : Int32} {a1 a2 a3 a4 a5 a6 a7 a8 a9 a10 a11 a12 a13 a14 a15 a16 a17 a18 : Nat → Int32} {post : Int32 → St1 → Prop} {c d : Nat} (hd : d < 8) (h : sl_Ap post c 5 (-1) (nI d) (-1) 0 fe fr fl fv a1 a2 a3 a4 a5 a6 a7 a8 a9 a10 a11 a12 a13 a14 a15 a16 a17 a18) : wpX_leave post (nI c, fe, fr, fl, fv, a1, a2, a3, a4, a5, a6, a7, a8, a9, a10, a11, a12, a13, a14, a15, a16, a17, a18) (nI d) := by
  unfold wpX_leave
  dsimp only
  exact sl_badReg hd (br_t rfl (sl_append ⟨h.1, h.2.1, h.2.2⟩))
theorem sl_add {fe fr fl fv : Int32} {a1 a2 a3 a4 a5 a6 a7 a8 a9 a10 a11 a12 a13 a14 a15 a16 a17 a18 : Nat → Int32} {post : Int32 → St1 → Prop} {c d l r : Nat} (hd : d < 8) (hl : l < 8) (hr : r < 8) (h : sl_Ap post c 1 (nI d) (nI l) (nI r) 0 fe fr fl fv a1 a2 a3 a4 a5 a6 a7 a8 a9 a10 a11 a12 a13 a14 a15 a16 a17 a18) : wpX_add post (nI c, fe, fr, fl, fv, a1, a2, a3, a4, a5, a6, a7, a8, a9, a10, a11, a12, a13, a14, a15, a16, a17, a18) (nI d) (nI l) (nI r) := by
  unfold wpX_add
  dsimp only
  exact sl_badReg hd (br_t rfl (sl_badReg hl (br_t rfl (sl_badReg hr (br_t rfl (sl_append ⟨h.1, h.2.1, h.2.2⟩))))))
theorem sl_subtract {fe fr fl fv : Int32} {a1 a2 a3 a4 a5 a6 a7 a8 a9 a10 a11 a12 a13 a14 a15 a16 a17 a18 : Nat → Int32} {post : Int32 → St1 → Prop} {c d l r : Nat} (hd : d < 8) (hl : l < 8) (hr : r < 8) (h : sl_Ap post c 2 (nI d) (nI l) (nI r) 0 fe fr fl fv a1 a2 a3 a4 a5 a6 a7 a8 a9 a10 a11 a12 a13 a14 a15 a16 a17 a18) : wpX_subtract post (nI c, fe, fr, fl, fv, a1, a2, a3, a4, a5, a6, a7, a8, a9, a10, a11, a12, a13, a14, a15, a16, a17, a18) (nI d) (nI l) (nI r) := by
  unfold wpX_subtract
  dsimp only
  exact sl_badReg hd (br_t rfl (sl_badReg hl (br_t rfl (sl_badReg hr (br_t rfl (sl_append ⟨h.1, h.2.1, h.2.2⟩))))))
theorem sl_load {fe fr fl fv : Int32} {a1 a2 a3 a4 a5 a6 a7 a8 a9 a10 a11 a12 a13 a14 a15 a16 a17 a18 : Nat → Int32} {post : Int32 → St1 → Prop} {c d l : Nat} {o : Int32} (hd : d < 8) (hl : l < 8) (h1 : ¬ o < (-8)) (h2 : o ≤ 15) (h : sl_Ap post c 3 (nI d) (nI l) (-1) o fe fr fl fv a1 a2 a3 a4 a5 a6 a7 a8 a9 a10 a11 a12 a13 a14 a15 a16 a17 a18) : wpX_load post (nI c, fe, fr, fl, fv, a1, a2, a3, a4, a5, a6, a7, a8, a9, a10, a11, a12, a13, a14, a15, a16, a17, a18) (nI d) (nI l) o := by
  unfold wpX_load
  dsimp only
  exact sl_badReg hd (br_t rfl (sl_badReg hl (br_t rfl (br_f h1 (br_t h2 (sl_append ⟨h.1, h.2.1, h.2.2⟩))))))
theorem sl_store {fe fr fl fv : Int32} {a1 a2 a3 a4 a5 a6 a7 a8 a9 a10 a11 a12 a13 a14 a15 a16 a17 a18 : Nat → Int32} {post : Int32 → St1 → Prop} {c l r : Nat} {o : Int32} (hl : l < 8) (hr : r < 8) (h1 : ¬ o < (-8)) (h2 : o ≤ 15) (h : sl_Ap post c 4 (-1) (nI l) (nI r) o fe fr fl fv a1 a2 a3 a4 a5 a6 a7 a8 a9 a10 a11 a12 a13 a14 a15 a16 a17 a18) : wpX_store post (nI c, fe, fr, fl, fv, a1, a2, a3, a4, a5, a6, a7, a8, a9, a10, a11, a12, a13, a14, a15, a16, a17, a18) (nI l) o (nI r) := by
  unfold wpX_store
  dsimp only
  exact sl_badReg hl (br_t rfl (sl_badReg hr (br_t rfl (br_f h1 (br_t h2 (sl_append ⟨h.1, h.2.1, h.2.2⟩))))))
/-- the script's two ints op, x stand for the instruction (k, d, l, r, v) -/
def sl_Dec (op x k d l r v : Int32) : Prop :=
  sl_Iv k d l r ∧ ∀ (c : Nat) (a1 a2 a3 a4 a5 a6 a7 a8 : Nat → Int32) (u : St1) (post : Int32 → St1 → Prop), sl_Ob c a1 a2 a3 a4 a5 a6 a7 a8 u → c ≤ 14 → (c = 14 → post (-2) u) →
    (c < 14 → ∀ u', sl_Ob (c + 1) (upd a1 c k) (upd a2 c d) (upd a3 c l) (upd a4 c r) (upd a5 c v) a6 a7 a8 u' → post (nI c) u') → wpL_append post u op x
theorem sl_ap_of {fe fr fl fv : Int32} {a1 a2 a3 a4 a5 a6 a7 a8 a9 a10 a11 a12 a13 a14 a15 a16 a17 a18 : Nat → Int32} {post : Int32 → St1 → Prop} {c : Nat} {k d l r v : Int32} (hc : c ≤ 14) (h0 : c = 14 → post (-2) (nI c, fe, fr, fl, fv, a1, a2, a3, a4, a5, a6, a7, a8, a9, a10, a11, a12, a13, a14, a15, a16, a17, a18))
    (h1 : c < 14 → ∀ u', sl_Ob (c + 1) (upd a1 c k) (upd a2 c d) (upd a3 c l) (upd a4 c r) (upd a5 c v) a6 a7 a8 u' → post (nI c) u') : sl_Ap post c k d l r v fe fr fl fv a1 a2 a3 a4 a5 a6 a7 a8 a9 a10 a11 a12 a13 a14 a15 a16 a17 a18 :=
  ⟨hc, h0, fun z => h1 z _ ⟨fe, 0, fl, fv, a9, a10, a11, a12, a13, a14, a15, a16, a17, a18, rfl, .inl rfl⟩⟩
theorem sl_off1 : ∀ t, t < 16 → ¬ (nI t - 1 < (-8)) := by decide +kernel
theorem sl_off2 : ∀ t, t < 16 → nI t - 1 ≤ 15 := by decide +kernel
theorem sl_dec (op x : Int32) : ∃ k d l r v, sl_Dec op x k d l r v := by
  obtain ⟨o, ho, eo⟩ := pk_andE op (m := 7) 3 (by decide)
  obtain ⟨a, ha, ea⟩ := pk_andE x (m := 7) 3 (by decide)
  obtain ⟨b, hb, eb⟩ := pk_andE (x >>> ((3 : Int32) &&& 31)) (m := 7) 3 (by decide)
  obtain ⟨e, he, ee⟩ := pk_andE (x >>> ((6 : Int32) &&& 31)) (m := 7) 3 (by decide)
  obtain ⟨t, ht, et⟩ := pk_andE (x >>> ((6 : Int32) &&& 31)) (m := 15) 4 (by decide)
  have et1 : ((x >>> ((6 : Int32) &&& 31)) &&& 15) - 1 = nI t - 1 := by rw [et]
  have ha8 : a < 8 := ha
  have hb8 : b < 8 := hb
  have he8 : e < 8 := he
  have ho8 : o < 8 := ho
  have ht16 : t < 16 := ht
  by_cases h0 : o = 0
  · subst h0
    refine ⟨0, nI a, -1, -1, (x >>> ((3 : Int32) &&& 31)) &&& 15, .inl ⟨rfl, a, ha8, rfl⟩, ?_⟩
    rintro c a1 a2 a3 a4 a5 a6 a7 a8 u post ⟨fe, fr, fl, fv, a9, a10, a11, a12, a13, a14, a15, a16, a17, a18, rfl, hs⟩ hc p0 p1
    refine nm_r eo (nm_r ea (nm_r eb (nm_r ee (nm_r et1 (br_t rfl (sl_constant ha8 ?_))))))
    exact sl_ap_of hc p0 p1
  by_cases h1 : o = 1
  · subst h1
    refine ⟨1, nI a, nI b, nI e, 0, .inr (.inl ⟨.inl rfl, ⟨a, ha8, rfl⟩, ⟨b, hb8, rfl⟩, ⟨e, he8, rfl⟩⟩), ?_⟩
    rintro c a1 a2 a3 a4 a5 a6 a7 a8 u post ⟨fe, fr, fl, fv, a9, a10, a11, a12, a13, a14, a15, a16, a17, a18, rfl, hs⟩ hc p0 p1
    refine nm_r eo (nm_r ea (nm_r eb (nm_r ee (nm_r et1 (br_f (by decide) (br_t rfl (sl_add ha8 hb8 he8 ?_)))))))
    exact sl_ap_of hc p0 p1
  by_cases h2 : o = 2
  · subst h2
    refine ⟨2, nI a, nI b, nI e, 0, .inr (.inl ⟨.inr rfl, ⟨a, ha8, rfl⟩, ⟨b, hb8, rfl⟩, ⟨e, he8, rfl⟩⟩), ?_⟩
    rintro c a1 a2 a3 a4 a5 a6 a7 a8 u post ⟨fe, fr, fl, fv, a9, a10, a11, a12, a13, a14, a15, a16, a17, a18, rfl, hs⟩ hc p0 p1
    refine nm_r eo (nm_r ea (nm_r eb (nm_r ee (nm_r et1 (br_f (by decide) (br_f (by decide) (br_t rfl (sl_subtract ha8 hb8 he8 ?_))))))))
    exact sl_ap_of hc p0 p1
  have n0 : ¬ nI o = 0 := fun z => h0 (sl_inj (by omega) (by omega) z)
  have n1 : ¬ nI o = 1 := fun z => h1 (sl_inj (b := 1) (by omega) (by omega) z)
  have n2 : ¬ nI o = 2 := fun z => h2 (sl_inj (b := 2) (by omega) (by omega) z)
  by_cases h5 : o < 5
  · refine ⟨3, nI a, nI b, -1, nI t - 1, .inr (.inr (.inl ⟨rfl, ⟨a, ha8, rfl⟩, ⟨b, hb8, rfl⟩⟩)), ?_⟩
    rintro c a1 a2 a3 a4 a5 a6 a7 a8 u post ⟨fe, fr, fl, fv, a9, a10, a11, a12, a13, a14, a15, a16, a17, a18, rfl, hs⟩ hc p0 p1
    refine nm_r eo (nm_r ea (nm_r eb (nm_r ee (nm_r et1 (br_f n0 (br_f n1 (br_f n2 (pk_le 5 o (fun z => absurd z (by omega)) (fun _ => sl_load ha8 hb8 (sl_off1 t ht16) (sl_off2 t ht16) ?_)))))))))
    exact sl_ap_of hc p0 p1
  by_cases h7 : o < 7
  · refine ⟨4, -1, nI a, nI b, nI t - 1, .inr (.inr (.inr (.inl ⟨rfl, ⟨a, ha8, rfl⟩, ⟨b, hb8, rfl⟩⟩))), ?_⟩
    rintro c a1 a2 a3 a4 a5 a6 a7 a8 u post ⟨fe, fr, fl, fv, a9, a10, a11, a12, a13, a14, a15, a16, a17, a18, rfl, hs⟩ hc p0 p1
    refine nm_r eo (nm_r ea (nm_r eb (nm_r ee (nm_r et1 (br_f n0 (br_f n1 (br_f n2 (pk_le 5 o (fun _ => pk_le 7 o (fun z => absurd z (by omega)) (fun _ => sl_store ha8 hb8 (sl_off1 t ht16) (sl_off2 t ht16) ?_)) (fun z => absurd z (by omega))))))))))
    exact sl_ap_of hc p0 p1
  · refine ⟨5, -1, nI a, -1, 0, .inr (.inr (.inr (.inr ⟨rfl, ⟨a, ha8, rfl⟩⟩))), ?_⟩
    rintro c a1 a2 a3 a4 a5 a6 a7 a8 u post ⟨fe, fr, fl, fv, a9, a10, a11, a12, a13, a14, a15, a16, a17, a18, rfl, hs⟩ hc p0 p1
    refine nm_r eo (nm_r ea (nm_r eb (nm_r ee (nm_r et1 (br_f n0 (br_f n1 (br_f n2 (pk_le 5 o (fun _ => pk_le 7 o (fun _ => sl_leave ha8 ?_) (fun z => absurd z (by omega))) (fun z => absurd z (by omega))))))))))
    exact sl_ap_of hc p0 p1
theorem sl_Pv_add {c : Nat} {a1 a2 a3 a4 : Nat → Int32} {k d l r : Int32} (hv : sl_Pv c a1 a2 a3 a4) (hc : c < 14) (hi : sl_Iv k d l r) : sl_Pv (c + 1) (upd a1 c k) (upd a2 c d) (upd a3 c l) (upd a4 c r) := by
  refine ⟨hc, fun j hj => ?_⟩
  by_cases e : j = c
  · rw [e, pk_us, pk_us, pk_us, pk_us]
    exact hi
  · rw [pk_un e, pk_un e, pk_un e, pk_un e]
    exact hv.2 j (by omega)
/-! run, at the picture -/
def sl_gp (p : sl_Pic) : Int32 × (Nat → Int32) × (Nat → Int32) := sl_go p.2.1 p.2.2.1 p.2.2.2.1 p.2.2.2.2.1 p.2.2.2.2.2.1 p.2.2.2.2.2.2.2.2 p.2.2.2.2.2.2.1 p.2.2.2.2.2.2.2.1 p.1
def sl_rp (p : sl_Pic) : sl_Pic := (p.1, p.2.1, p.2.2.1, p.2.2.2.1, p.2.2.2.2.1, p.2.2.2.2.2.1, (sl_gp p).2.1, (sl_gp p).2.2, p.2.2.2.2.2.2.2.2)
theorem sl_runP {p : sl_Pic} {u : St1} {post : Int32 → St1 → Prop} (hv : sl_PV p) (hu : sl_PO p u) (H : ∀ u', sl_PO (sl_rp p) u' → u'.2.1 = (sl_gp p).1 → post (sl_gp p).1 u') : wpX_run post u := by
  obtain ⟨c, a1, a2, a3, a4, a5, a6, a7, a8⟩ := p
  obtain ⟨fe, fr, fl, fv, a9, a10, a11, a12, a13, a14, a15, a16, a17, a18, rfl, hs⟩ := hu
  refine sl_run hv hs (fun gr gl gv b9 b10 b11 b12 b13 b14 b15 b16 b17 b18 hS => ?_)
  exact H _ ⟨_, gr, gl, gv, b9, b10, b11, b12, b13, b14, b15, b16, b17, b18, rfl, .inr hS⟩ rfl
end
section
/-! ===== repeat and turn ===== -/
theorem sl_rep {T : Nat} (hT : T ≤ 8) : ∀ k p, sl_PV p → k ≤ T → ∃ p', sl_PV p' ∧ ∀ u, sl_PO p u → ∀ (post : Int32 → St1 → Prop) (x3 : Int32), (∀ r u', sl_PO p' u' → post r u') →
    wX_repeat_25 post (nI T) (k + 1) x3 1 (nI (T - k)) u.1 u.2.1 u.2.2.1 u.2.2.2.1 u.2.2.2.2.1 u.2.2.2.2.2.1 u.2.2.2.2.2.2.1 u.2.2.2.2.2.2.2.1 u.2.2.2.2.2.2.2.2.1 u.2.2.2.2.2.2.2.2.2.1 u.2.2.2.2.2.2.2.2.2.2.1 u.2.2.2.2.2.2.2.2.2.2.2.1 u.2.2.2.2.2.2.2.2.2.2.2.2.1 u.2.2.2.2.2.2.2.2.2.2.2.2.2.1 u.2.2.2.2.2.2.2.2.2.2.2.2.2.2.1 u.2.2.2.2.2.2.2.2.2.2.2.2.2.2.2.1 u.2.2.2.2.2.2.2.2.2.2.2.2.2.2.2.2.1 u.2.2.2.2.2.2.2.2.2.2.2.2.2.2.2.2.2.1 u.2.2.2.2.2.2.2.2.2.2.2.2.2.2.2.2.2.2.1 u.2.2.2.2.2.2.2.2.2.2.2.2.2.2.2.2.2.2.2.1 u.2.2.2.2.2.2.2.2.2.2.2.2.2.2.2.2.2.2.2.2.1 u.2.2.2.2.2.2.2.2.2.2.2.2.2.2.2.2.2.2.2.2.2.1 u.2.2.2.2.2.2.2.2.2.2.2.2.2.2.2.2.2.2.2.2.2.2 := by
  intro k
  induction k with
  | zero =>
    intro p hv hk
    refine ⟨p, hv, fun u hu post x3 H => ?_⟩
    exact pk_le T (T - 0) (fun _ => H _ u hu) (fun z => absurd z (by omega))
  | succ k ih =>
    intro p hv hk
    have hv' : sl_PV (sl_rp p) := hv
    obtain ⟨p', hp', h'⟩ := ih (sl_rp p) hv' (by omega)
    have en : nI (T - (k + 1)) + 1 = nI (T - k) := by
      rw [nI_1]
      congr 1
      omega
    by_cases e : (sl_gp p).1 = 0
    · refine ⟨p', hp', fun u hu post x3 H => ?_⟩
      refine pk_le T (T - (k + 1)) (fun z => absurd z (by omega)) (fun _ => br_f (by decide) ?_)
      refine sl_runP hv hu (fun u' hu' _ => ?_)
      exact nm_e (br_t e (nm_r en (h' u' hu' post _ H)))
    · refine ⟨sl_rp p, hv', fun u hu post x3 H => ?_⟩
      refine pk_le T (T - (k + 1)) (fun z => absurd z (by omega)) (fun _ => br_f (by decide) ?_)
      refine sl_runP hv hu (fun u' hu' _ => ?_)
      exact nm_e (br_f e (nm_e (br_c (fun _ => H _ u' hu') (fun _ => br_t rfl (H _ u' hu')))))
theorem sl_repeat8 {p : sl_Pic} {T : Nat} (hT : T ≤ 8) (hv : sl_PV p) : ∃ p', sl_PV p' ∧ ∀ u, sl_PO p u → ∀ (post : Int32 → St1 → Prop), (∀ r u', sl_PO p' u' → post r u') →
    ∃ n, wX_repeat_25 post (nI T) n 0 1 0 u.1 u.2.1 u.2.2.1 u.2.2.2.1 u.2.2.2.2.1 u.2.2.2.2.2.1 u.2.2.2.2.2.2.1 u.2.2.2.2.2.2.2.1 u.2.2.2.2.2.2.2.2.1 u.2.2.2.2.2.2.2.2.2.1 u.2.2.2.2.2.2.2.2.2.2.1 u.2.2.2.2.2.2.2.2.2.2.2.1 u.2.2.2.2.2.2.2.2.2.2.2.2.1 u.2.2.2.2.2.2.2.2.2.2.2.2.2.1 u.2.2.2.2.2.2.2.2.2.2.2.2.2.2.1 u.2.2.2.2.2.2.2.2.2.2.2.2.2.2.2.1 u.2.2.2.2.2.2.2.2.2.2.2.2.2.2.2.2.1 u.2.2.2.2.2.2.2.2.2.2.2.2.2.2.2.2.2.1 u.2.2.2.2.2.2.2.2.2.2.2.2.2.2.2.2.2.2.1 u.2.2.2.2.2.2.2.2.2.2.2.2.2.2.2.2.2.2.2.1 u.2.2.2.2.2.2.2.2.2.2.2.2.2.2.2.2.2.2.2.2.1 u.2.2.2.2.2.2.2.2.2.2.2.2.2.2.2.2.2.2.2.2.2.1 u.2.2.2.2.2.2.2.2.2.2.2.2.2.2.2.2.2.2.2.2.2.2 := by
  obtain ⟨p', hp', h⟩ := sl_rep hT T p hv (Nat.le_refl T)
  refine ⟨p', hp', fun u hu post H => ⟨T + 1, ?_⟩⟩
  have g := h u hu post 0 H
  rw [Nat.sub_self] at g
  exact g
theorem sl_rc1 : ∀ t, t < 16 → (t < 2 ∧ ¬ (0 ≤ nI t - 2)) ∨ (2 ≤ t ∧ 0 ≤ nI t - 2) := by decide +kernel
theorem sl_repeat {p : sl_Pic} (x : Int32) (hv : sl_PV p) : ∃ p', sl_PV p' ∧ ∀ u, sl_PO p u → ∀ (post : Int32 → St1 → Prop), (∀ r u', sl_PO p' u' → post r u') →
    wpX_repeat post u ((x &&& 15) - 2) := by
  obtain ⟨t, ht, et⟩ := pk_andE x (m := 15) 4 (by decide)
  rw [et]
  have ht16 : t < 16 := ht
  by_cases h2 : t < 2
  · obtain ⟨p', hp', h⟩ := sl_repeat8 (T := 0) (by omega) hv
    refine ⟨p', hp', fun u hu post H => ?_⟩
    have n0 : ¬ (0 ≤ nI t - 2) := by
      rcases sl_rc1 t ht16 with z | z
      · exact z.2
      · omega
    exact br_f n0 (br_t (by decide) (h u hu post H))
  · have e : nI t - 2 = nI (t - 2) := pk_sub (b := 2) (by omega)
    rw [e]
    by_cases h10 : t - 2 ≤ 8
    · obtain ⟨p', hp', h⟩ := sl_repeat8 (T := t - 2) h10 hv
      refine ⟨p', hp', fun u hu post H => ?_⟩
      exact pk_le 0 (t - 2) (fun _ => pk_le (t - 2) 8 (fun _ => h u hu post H) (fun z => absurd z (by omega))) (fun z => absurd z (by omega))
    · obtain ⟨p', hp', h⟩ := sl_repeat8 (T := 8) (by omega) hv
      refine ⟨p', hp', fun u hu post H => ?_⟩
      exact pk_le 0 (t - 2) (fun _ => pk_le (t - 2) 8 (fun z => absurd z (by omega)) (fun _ => h u hu post H)) (fun z => absurd z (by omega))
theorem sl_setRegister {fc fe fr fl fv : Int32} {a1 a2 a3 a4 a5 a6 a7 a8 a9 a10 a11 a12 a13 a14 a15 a16 a17 a18 : Nat → Int32} {post : Int32 → St1 → Prop} {a : Nat} {v : Int32} (ha : a < 8) (h : post 0 (fc, fe, fr, fl, fv, a1, a2, a3, a4, a5, upd a6 a v, a7, a8, a9, a10, a11, a12, a13, a14, a15, a16, a17, a18)) : wpX_setRegister post (fc, fe, fr, fl, fv, a1, a2, a3, a4, a5, a6, a7, a8, a9, a10, a11, a12, a13, a14, a15, a16, a17, a18) (nI a) v := by
  unfold wpX_setRegister
  dsimp only
  exact sl_badReg ha (br_t rfl ⟨pk_in a 8 ha, nm_r (e' := upd a6 a v) (by rw [nI_clamp (by omega)]) h⟩)
theorem sl_setWord {fc fe fr fl fv : Int32} {a1 a2 a3 a4 a5 a6 a7 a8 a9 a10 a11 a12 a13 a14 a15 a16 a17 a18 : Nat → Int32} {post : Int32 → St1 → Prop} {a : Nat} {v : Int32} (ha : a < 16) (h : post 0 (fc, fe, fr, fl, fv, a1, a2, a3, a4, a5, a6, upd a7 a v, a8, a9, a10, a11, a12, a13, a14, a15, a16, a17, a18)) : wpX_setWord post (fc, fe, fr, fl, fv, a1, a2, a3, a4, a5, a6, a7, a8, a9, a10, a11, a12, a13, a14, a15, a16, a17, a18) (nI a) v := by
  unfold wpX_setWord
  dsimp only
  exact sl_badAddr ha (br_t rfl ⟨pk_in a 16 ha, nm_r (e' := upd a7 a v) (by rw [nI_clamp (by omega)]) h⟩)
theorem sl_bar {fc fe fr fl fv : Int32} {a1 a2 a3 a4 a5 a6 a7 a8 a9 a10 a11 a12 a13 a14 a15 a16 a17 a18 : Nat → Int32} {post : Int32 → St1 → Prop} {a : Nat} {v : Int32} (ha : a < 16) (h0 : v = 0 → ∀ r, post r (fc, fe, fr, fl, fv, a1, a2, a3, a4, a5, a6, a7, upd a8 a 0, a9, a10, a11, a12, a13, a14, a15, a16, a17, a18)) (h1 : ¬ v = 0 → ∀ r, post r (fc, fe, fr, fl, fv, a1, a2, a3, a4, a5, a6, a7, upd a8 a 1, a9, a10, a11, a12, a13, a14, a15, a16, a17, a18)) : wpX_bar post (fc, fe, fr, fl, fv, a1, a2, a3, a4, a5, a6, a7, a8, a9, a10, a11, a12, a13, a14, a15, a16, a17, a18) (nI a) v := by
  have g : ∀ z, wX_bar_24 post (nI a) v z fc fe fr fl fv a1 a2 a3 a4 a5 a6 a7 a8 a9 a10 a11 a12 a13 a14 a15 a16 a17 a18 :=
    fun z => br_c (fun e => ⟨pk_in a 16 ha, nm_r (e' := upd a8 a 0) (by rw [nI_clamp (by omega)]) (h0 e z)⟩) (fun e => ⟨pk_in a 16 ha, nm_r (e' := upd a8 a 1) (by rw [nI_clamp (by omega)]) (h1 e z)⟩)
  unfold wpX_bar
  dsimp only
  exact sl_badAddr ha (br_t rfl ⟨pk_in a 16 ha, br_c (fun _ => g 0) (fun _ => g 1)⟩)
theorem sl_turn (op x : Int32) {p : sl_Pic} (hv : sl_PV p) : ∃ p', sl_PV p' ∧ sl_Tr p p' (fun post u => wpL_turn post u op x) := by
  obtain ⟨o, ho, eo⟩ := pk_andE (op >>> ((3 : Int32) &&& 31)) (m := 7) 3 (by decide)
  obtain ⟨q, hq, eq⟩ := pk_andE op (m := 7) 3 (by decide)
  have ho8 : o < 8 := ho
  have hq8 : q < 8 := hq
  by_cases h3 : o < 3
  · obtain ⟨k, d, l, r, v, hi, h⟩ := sl_dec op x
    obtain ⟨c, a1, a2, a3, a4, a5, a6, a7, a8⟩ := p
    by_cases hc : c = 14
    · refine ⟨(c, a1, a2, a3, a4, a5, a6, a7, a8), hv, fun u hu post H => ?_⟩
      obtain ⟨fe, fr, fl, fv, a9, a10, a11, a12, a13, a14, a15, a16, a17, a18, rfl, hs⟩ := hu
      refine nm_r eo (pk_le 3 o (fun z => absurd z (by omega)) (fun _ => ?_))
      refine h c a1 a2 a3 a4 a5 a6 a7 a8 _ _ ⟨fe, fr, fl, fv, a9, a10, a11, a12, a13, a14, a15, a16, a17, a18, rfl, hs⟩ hv.1 (fun _ => ?_) (fun z => absurd z (by omega))
      exact H _ ⟨fe, fr, fl, fv, a9, a10, a11, a12, a13, a14, a15, a16, a17, a18, rfl, hs⟩
    · have hc' : c < 14 := Nat.lt_of_le_of_ne hv.1 hc
      refine ⟨(c + 1, upd a1 c k, upd a2 c d, upd a3 c l, upd a4 c r, upd a5 c v, a6, a7, a8), sl_Pv_add hv hc' hi, fun u hu post H => ?_⟩
      obtain ⟨fe, fr, fl, fv, a9, a10, a11, a12, a13, a14, a15, a16, a17, a18, rfl, hs⟩ := hu
      refine nm_r eo (pk_le 3 o (fun z => absurd z (by omega)) (fun _ => ?_))
      exact h c a1 a2 a3 a4 a5 a6 a7 a8 _ _ ⟨fe, fr, fl, fv, a9, a10, a11, a12, a13, a14, a15, a16, a17, a18, rfl, hs⟩ hv.1 (fun z => absurd z hc) (fun _ u' hu' => H u' hu')
  by_cases e3 : o = 3
  · subst e3
    obtain ⟨a, ha, ea⟩ := pk_andE x (m := 7) 3 (by decide)
    have ha8 : a < 8 := ha
    obtain ⟨c, a1, a2, a3, a4, a5, a6, a7, a8⟩ := p
    refine ⟨(c, a1, a2, a3, a4, a5, upd a6 a ((x >>> ((3 : Int32) &&& 31)) &&& 15), a7, a8), hv, fun u hu post H => ?_⟩
    obtain ⟨fe, fr, fl, fv, a9, a10, a11, a12, a13, a14, a15, a16, a17, a18, rfl, hs⟩ := hu
    refine nm_r eo (br_t (by decide) (br_t rfl ?_))
    rw [ea]
    refine sl_setRegister ha8 ?_
    exact H _ ⟨fe, fr, fl, fv, a9, a10, a11, a12, a13, a14, a15, a16, a17, a18, rfl, hs⟩
  by_cases e4 : o = 4
  · subst e4
    obtain ⟨a, ha, ea⟩ := pk_andE x (m := 15) 4 (by decide)
    have ha8 : a < 16 := ha
    obtain ⟨c, a1, a2, a3, a4, a5, a6, a7, a8⟩ := p
    refine ⟨(c, a1, a2, a3, a4, a5, a6, upd a7 a ((x >>> ((4 : Int32) &&& 31)) &&& 15), a8), hv, fun u hu post H => ?_⟩
    obtain ⟨fe, fr, fl, fv, a9, a10, a11, a12, a13, a14, a15, a16, a17, a18, rfl, hs⟩ := hu
    refine nm_r eo (br_t (by decide) (br_f (by decide) (br_t rfl ?_)))
    rw [ea]
    refine sl_setWord ha8 ?_
    exact H _ ⟨fe, fr, fl, fv, a9, a10, a11, a12, a13, a14, a15, a16, a17, a18, rfl, hs⟩
  by_cases e5 : o = 5
  · subst e5
    refine ⟨sl_rp p, hv, fun u hu post H => ?_⟩
    refine nm_r eo (br_t (by decide) (br_f (by decide) (br_f (by decide) (br_t rfl ?_))))
    exact sl_runP hv hu (fun u' hu' _ => H u' hu')
  have n3 : ¬ nI o = 3 := fun z => e3 (sl_inj (b := 3) (by omega) (by omega) z)
  have n4 : ¬ nI o = 4 := fun z => e4 (sl_inj (b := 4) (by omega) (by omega) z)
  have n5 : ¬ nI o = 5 := fun z => e5 (sl_inj (b := 5) (by omega) (by omega) z)
  by_cases q3 : q < 3
  · obtain ⟨a, ha, ea⟩ := pk_andE x (m := 15) 4 (by decide)
    have ha8 : a < 16 := ha
    obtain ⟨c, a1, a2, a3, a4, a5, a6, a7, a8⟩ := p
    by_cases on : (x >>> ((4 : Int32) &&& 31)) &&& 1 = 0
    · refine ⟨(c, a1, a2, a3, a4, a5, a6, a7, upd a8 a 0), hv, fun u hu post H => ?_⟩
      obtain ⟨fe, fr, fl, fv, a9, a10, a11, a12, a13, a14, a15, a16, a17, a18, rfl, hs⟩ := hu
      refine nm_r eo (pk_le 3 o (fun _ => br_f n3 (br_f n4 (br_f n5 (pk_le 3 q (fun z => absurd z (by omega)) (fun _ => ?_) rfl eq)))) (fun z => absurd z (by omega)))
      rw [ea]
      exact sl_bar ha8 (fun _ r => H _ ⟨fe, fr, fl, fv, a9, a10, a11, a12, a13, a14, a15, a16, a17, a18, rfl, hs⟩) (fun z => absurd on z)
    · refine ⟨(c, a1, a2, a3, a4, a5, a6, a7, upd a8 a 1), hv, fun u hu post H => ?_⟩
      obtain ⟨fe, fr, fl, fv, a9, a10, a11, a12, a13, a14, a15, a16, a17, a18, rfl, hs⟩ := hu
      refine nm_r eo (pk_le 3 o (fun _ => br_f n3 (br_f n4 (br_f n5 (pk_le 3 q (fun z => absurd z (by omega)) (fun _ => ?_) rfl eq)))) (fun z => absurd z (by omega)))
      rw [ea]
      exact sl_bar ha8 (fun z => absurd z on) (fun _ r => H _ ⟨fe, fr, fl, fv, a9, a10, a11, a12, a13, a14, a15, a16, a17, a18, rfl, hs⟩)
  by_cases q6 : q < 6
  · obtain ⟨p', hp', h⟩ := sl_repeat x hv
    refine ⟨p', hp', fun u hu post H => ?_⟩
    refine nm_r eo (pk_le 3 o (fun _ => br_f n3 (br_f n4 (br_f n5 (pk_le 3 q (fun _ => pk_le 6 q (fun z => absurd z (by omega)) (fun _ => ?_) rfl eq) (fun z => absurd z (by omega)) rfl eq)))) (fun z => absurd z (by omega)))
    exact h u hu _ (fun r u' hu' => H u' hu')
  · obtain ⟨c, a1, a2, a3, a4, a5, a6, a7, a8⟩ := p
    refine ⟨(0, a1, a2, a3, a4, a5, a6, a7, a8), ⟨Nat.zero_le 14, fun j hj => absurd hj (Nat.not_lt_zero j)⟩, fun u hu post H => ?_⟩
    obtain ⟨fe, fr, fl, fv, a9, a10, a11, a12, a13, a14, a15, a16, a17, a18, rfl, hs⟩ := hu
    refine nm_r eo (pk_le 3 o (fun _ => br_f n3 (br_f n4 (br_f n5 (pk_le 3 q (fun _ => pk_le 6 q (fun _ => ?_) (fun z => absurd z (by omega)) rfl eq) (fun z => absurd z (by omega)) rfl eq)))) (fun z => absurd z (by omega)))
    exact H _ ⟨fe, 0, fl, fv, a9, a10, a11, a12, a13, a14, a15, a16, a17, a18, rfl, .inl rfl⟩
end
section
/-! ===== the law ===== -/
theorem sl_go_stay {a1 a2 a3 a4 a5 B R M : Nat → Int32} {i : Nat} (e : Nat) (h : (sl_go a1 a2 a3 a4 a5 B R M i).1 ≠ 0) (hi : i ≤ e) : sl_go a1 a2 a3 a4 a5 B R M e = sl_go a1 a2 a3 a4 a5 B R M i := by
  induction e with
  | zero =>
    have z : i = 0 := by omega
    rw [z]
  | succ e ih =>
    by_cases z : i = e + 1
    · rw [z]
    · rw [sl_go, ih (by omega), if_neg h]
theorem sl_word {fc fe fr fl fv : Int32} {a1 a2 a3 a4 a5 a6 a7 a8 a9 a10 a11 a12 a13 a14 a15 a16 a17 a18 : Nat → Int32} {post : Int32 → Prop} {i : Nat} (hi : i < 16) (h : post (a7 i)) : wpX_word post (fc, fe, fr, fl, fv, a1, a2, a3, a4, a5, a6, a7, a8, a9, a10, a11, a12, a13, a14, a15, a16, a17, a18) (nI i) := by
  unfold wpX_word
  dsimp only
  rw [nI_clamp (by omega)]
  exact sl_badAddr hi (br_t rfl ⟨pk_in i 16 hi, h⟩)
theorem sl_register {fc fe fr fl fv : Int32} {a1 a2 a3 a4 a5 a6 a7 a8 a9 a10 a11 a12 a13 a14 a15 a16 a17 a18 : Nat → Int32} {post : Int32 → Prop} {i : Nat} (hi : i < 8) (h : post (a6 i)) : wpX_register post (fc, fe, fr, fl, fv, a1, a2, a3, a4, a5, a6, a7, a8, a9, a10, a11, a12, a13, a14, a15, a16, a17, a18) (nI i) := by
  unfold wpX_register
  dsimp only
  rw [nI_clamp (by omega)]
  exact sl_badReg hi (br_t rfl ⟨pk_in i 8 hi, h⟩)
theorem sl_same {fc fe fr fl fv : Int32} {a1 a2 a3 a4 a5 a6 a7 a8 a9 a10 a11 a12 a13 a14 a15 a16 a17 a18 : Nat → Int32} {post : Int32 → Prop} {fc2 fe2 fr2 fl2 fv2 : Int32} {a12' a22 a32 a42 a52 a82 a92 a102 a112 a122 a132 a142 a152 a162 a172 a182 : Nat → Int32} (h : post 1) :
    wpL_same post (fc, fe, fr, fl, fv, a1, a2, a3, a4, a5, a6, a7, a8, a9, a10, a11, a12, a13, a14, a15, a16, a17, a18, fc2, fe2, fr2, fl2, fv2, a12', a22, a32, a42, a52, a6, a7, a82, a92, a102, a112, a122, a132, a142, a152, a162, a172, a182) := by
  refine pk_loop (σ := Unit) (fun n i _ => wL_same_2 post fc fe fr fl fv a1 a2 a3 a4 a5 a6 a7 a8 a9 a10 a11 a12 a13 a14 a15 a16 a17 a18 fc2 fe2 fr2 fl2 fv2 a12' a22 a32 a42 a52 a6 a7 a82 a92 a102 a112 a122 a132 a142 a152 a162 a172 a182 n (nI i)) (fun _ _ => True) 16 0 () (by omega) trivial ?_ ?_
  · intro n _ _
    exact pk_le 16 16 (fun _ => h) (fun z => absurd z (by omega))
  · intro n i _ hi _ hw
    refine pk_le 16 i (fun z => absurd z (by omega)) (fun _ => ?_)
    have e : nI i &&& 7 = nI (i % 2 ^ 3) := pk_andN (by omega) 3 (by decide)
    have m8 : i % 2 ^ 3 < 8 := Nat.mod_lt _ (by decide)
    rw [e]
    exact sl_word hi (sl_word hi (br_t rfl (sl_register m8 (sl_register m8 (br_t rfl (nm_r (nI_1 i) (hw () trivial)))))))
theorem sl_l185 {p p' : sl_Pic} {um un : St1} {L : Nat} {xs : Nat → Int32} {kc ks : Nat} {x : Int32} (hm : sl_PO p um) (hn : sl_PO p' un) (hR : p.2.2.2.2.2.2.1 = p'.2.2.2.2.2.2.1) (hM : p.2.2.2.2.2.2.2.1 = p'.2.2.2.2.2.2.2.1) (hl : um.2.1 = x) :
    wL_law_185 (fun r => r = 1) L xs x x kc ks um.1 um.2.1 um.2.2.1 um.2.2.2.1 um.2.2.2.2.1 um.2.2.2.2.2.1 um.2.2.2.2.2.2.1 um.2.2.2.2.2.2.2.1 um.2.2.2.2.2.2.2.2.1 um.2.2.2.2.2.2.2.2.2.1 um.2.2.2.2.2.2.2.2.2.2.1 um.2.2.2.2.2.2.2.2.2.2.2.1 um.2.2.2.2.2.2.2.2.2.2.2.2.1 um.2.2.2.2.2.2.2.2.2.2.2.2.2.1 um.2.2.2.2.2.2.2.2.2.2.2.2.2.2.1 um.2.2.2.2.2.2.2.2.2.2.2.2.2.2.2.1 um.2.2.2.2.2.2.2.2.2.2.2.2.2.2.2.2.1 um.2.2.2.2.2.2.2.2.2.2.2.2.2.2.2.2.2.1 um.2.2.2.2.2.2.2.2.2.2.2.2.2.2.2.2.2.2.1 um.2.2.2.2.2.2.2.2.2.2.2.2.2.2.2.2.2.2.2.1 um.2.2.2.2.2.2.2.2.2.2.2.2.2.2.2.2.2.2.2.2.1 um.2.2.2.2.2.2.2.2.2.2.2.2.2.2.2.2.2.2.2.2.2.1 um.2.2.2.2.2.2.2.2.2.2.2.2.2.2.2.2.2.2.2.2.2.2 un.1 un.2.1 un.2.2.1 un.2.2.2.1 un.2.2.2.2.1 un.2.2.2.2.2.1 un.2.2.2.2.2.2.1 un.2.2.2.2.2.2.2.1 un.2.2.2.2.2.2.2.2.1 un.2.2.2.2.2.2.2.2.2.1 un.2.2.2.2.2.2.2.2.2.2.1 un.2.2.2.2.2.2.2.2.2.2.2.1 un.2.2.2.2.2.2.2.2.2.2.2.2.1 un.2.2.2.2.2.2.2.2.2.2.2.2.2.1 un.2.2.2.2.2.2.2.2.2.2.2.2.2.2.1 un.2.2.2.2.2.2.2.2.2.2.2.2.2.2.2.1 un.2.2.2.2.2.2.2.2.2.2.2.2.2.2.2.2.1 un.2.2.2.2.2.2.2.2.2.2.2.2.2.2.2.2.2.1 un.2.2.2.2.2.2.2.2.2.2.2.2.2.2.2.2.2.2.1 un.2.2.2.2.2.2.2.2.2.2.2.2.2.2.2.2.2.2.2.1 un.2.2.2.2.2.2.2.2.2.2.2.2.2.2.2.2.2.2.2.2.1 un.2.2.2.2.2.2.2.2.2.2.2.2.2.2.2.2.2.2.2.2.2.1 un.2.2.2.2.2.2.2.2.2.2.2.2.2.2.2.2.2.2.2.2.2.2 := by
  obtain ⟨c, a1, a2, a3, a4, a5, a6, a7, a8⟩ := p
  obtain ⟨c', b1, b2, b3, b4, b5, b6, b7, b8⟩ := p'
  obtain ⟨fe, fr, fl, fv, a9, a10, a11, a12, a13, a14, a15, a16, a17, a18, rfl, _⟩ := hm
  obtain ⟨ge, gr, gl, gv, b9, b10, b11, b12, b13, b14, b15, b16, b17, b18, rfl, _⟩ := hn
  have e1 : a6 = b6 := hR
  have e2 : a7 = b7 := hM
  subst e1 e2
  have e3 : fe = x := hl
  subst e3
  exact br_t rfl (br_t rfl (sl_same (br_f (by decide) rfl)))
section
variable {L e : Nat} {xs : Nat → Int32} {kc ks : Nat} {a1 a2 a3 a4 a5 a6 a7 a8 : Nat → Int32}
theorem sl_l121 {um un : St1} {p : sl_Pic} (he : e ≤ 14) (heL : 2 * e ≤ L) (hL : L ≤ 260) (hd : ∀ j, j < e → sl_Dec (xs (2 * j)) (xs (2 * j + 1)) (a1 j) (a2 j) (a3 j) (a4 j) (a5 j))
    (hm : sl_PO (e, a1, a2, a3, a4, a5, (sl_go a1 a2 a3 a4 a5 a8 a6 a7 e).2.1, (sl_go a1 a2 a3 a4 a5 a8 a6 a7 e).2.2, a8) um) (hl : um.2.1 = (sl_go a1 a2 a3 a4 a5 a8 a6 a7 e).1)
    (hn : sl_PO p un) (h6 : p.2.2.2.2.2.2.1 = a6) (h7 : p.2.2.2.2.2.2.2.1 = a7) (h8 : p.2.2.2.2.2.2.2.2 = a8) :
    ∃ n, wL_law_121 (fun r => r = 1) L xs (nI e) (sl_go a1 a2 a3 a4 a5 a8 a6 a7 e).1 kc ks n 0 0 um.1 um.2.1 um.2.2.1 um.2.2.2.1 um.2.2.2.2.1 um.2.2.2.2.2.1 um.2.2.2.2.2.2.1 um.2.2.2.2.2.2.2.1 um.2.2.2.2.2.2.2.2.1 um.2.2.2.2.2.2.2.2.2.1 um.2.2.2.2.2.2.2.2.2.2.1 um.2.2.2.2.2.2.2.2.2.2.2.1 um.2.2.2.2.2.2.2.2.2.2.2.2.1 um.2.2.2.2.2.2.2.2.2.2.2.2.2.1 um.2.2.2.2.2.2.2.2.2.2.2.2.2.2.1 um.2.2.2.2.2.2.2.2.2.2.2.2.2.2.2.1 um.2.2.2.2.2.2.2.2.2.2.2.2.2.2.2.2.1 um.2.2.2.2.2.2.2.2.2.2.2.2.2.2.2.2.2.1 um.2.2.2.2.2.2.2.2.2.2.2.2.2.2.2.2.2.2.1 um.2.2.2.2.2.2.2.2.2.2.2.2.2.2.2.2.2.2.2.1 um.2.2.2.2.2.2.2.2.2.2.2.2.2.2.2.2.2.2.2.2.1 um.2.2.2.2.2.2.2.2.2.2.2.2.2.2.2.2.2.2.2.2.2.1 um.2.2.2.2.2.2.2.2.2.2.2.2.2.2.2.2.2.2.2.2.2.2 un.1 un.2.1 un.2.2.1 un.2.2.2.1 un.2.2.2.2.1 un.2.2.2.2.2.1 un.2.2.2.2.2.2.1 un.2.2.2.2.2.2.2.1 un.2.2.2.2.2.2.2.2.1 un.2.2.2.2.2.2.2.2.2.1 un.2.2.2.2.2.2.2.2.2.2.1 un.2.2.2.2.2.2.2.2.2.2.2.1 un.2.2.2.2.2.2.2.2.2.2.2.2.1 un.2.2.2.2.2.2.2.2.2.2.2.2.2.1 un.2.2.2.2.2.2.2.2.2.2.2.2.2.2.1 un.2.2.2.2.2.2.2.2.2.2.2.2.2.2.2.1 un.2.2.2.2.2.2.2.2.2.2.2.2.2.2.2.2.1 un.2.2.2.2.2.2.2.2.2.2.2.2.2.2.2.2.2.1 un.2.2.2.2.2.2.2.2.2.2.2.2.2.2.2.2.2.2.1 un.2.2.2.2.2.2.2.2.2.2.2.2.2.2.2.2.2.2.2.1 un.2.2.2.2.2.2.2.2.2.2.2.2.2.2.2.2.2.2.2.2.1 un.2.2.2.2.2.2.2.2.2.2.2.2.2.2.2.2.2.2.2.2.2.1 un.2.2.2.2.2.2.2.2.2.2.2.2.2.2.2.2.2.2.2.2.2.2 := by
  refine pk_loop (fun n i (s : Int32 × St1) => wL_law_121 (fun r => r = 1) L xs (nI e) (sl_go a1 a2 a3 a4 a5 a8 a6 a7 e).1 kc ks n s.1 (nI i) um.1 um.2.1 um.2.2.1 um.2.2.2.1 um.2.2.2.2.1 um.2.2.2.2.2.1 um.2.2.2.2.2.2.1 um.2.2.2.2.2.2.2.1 um.2.2.2.2.2.2.2.2.1 um.2.2.2.2.2.2.2.2.2.1 um.2.2.2.2.2.2.2.2.2.2.1 um.2.2.2.2.2.2.2.2.2.2.2.1 um.2.2.2.2.2.2.2.2.2.2.2.2.1 um.2.2.2.2.2.2.2.2.2.2.2.2.2.1 um.2.2.2.2.2.2.2.2.2.2.2.2.2.2.1 um.2.2.2.2.2.2.2.2.2.2.2.2.2.2.2.1 um.2.2.2.2.2.2.2.2.2.2.2.2.2.2.2.2.1 um.2.2.2.2.2.2.2.2.2.2.2.2.2.2.2.2.2.1 um.2.2.2.2.2.2.2.2.2.2.2.2.2.2.2.2.2.2.1 um.2.2.2.2.2.2.2.2.2.2.2.2.2.2.2.2.2.2.2.1 um.2.2.2.2.2.2.2.2.2.2.2.2.2.2.2.2.2.2.2.2.1 um.2.2.2.2.2.2.2.2.2.2.2.2.2.2.2.2.2.2.2.2.2.1 um.2.2.2.2.2.2.2.2.2.2.2.2.2.2.2.2.2.2.2.2.2.2 s.2.1 s.2.2.1 s.2.2.2.1 s.2.2.2.2.1 s.2.2.2.2.2.1 s.2.2.2.2.2.2.1 s.2.2.2.2.2.2.2.1 s.2.2.2.2.2.2.2.2.1 s.2.2.2.2.2.2.2.2.2.1 s.2.2.2.2.2.2.2.2.2.2.1 s.2.2.2.2.2.2.2.2.2.2.2.1 s.2.2.2.2.2.2.2.2.2.2.2.2.1 s.2.2.2.2.2.2.2.2.2.2.2.2.2.1 s.2.2.2.2.2.2.2.2.2.2.2.2.2.2.1 s.2.2.2.2.2.2.2.2.2.2.2.2.2.2.2.1 s.2.2.2.2.2.2.2.2.2.2.2.2.2.2.2.2.1 s.2.2.2.2.2.2.2.2.2.2.2.2.2.2.2.2.2.1 s.2.2.2.2.2.2.2.2.2.2.2.2.2.2.2.2.2.2.1 s.2.2.2.2.2.2.2.2.2.2.2.2.2.2.2.2.2.2.2.1 s.2.2.2.2.2.2.2.2.2.2.2.2.2.2.2.2.2.2.2.2.1 s.2.2.2.2.2.2.2.2.2.2.2.2.2.2.2.2.2.2.2.2.2.1 s.2.2.2.2.2.2.2.2.2.2.2.2.2.2.2.2.2.2.2.2.2.2.1 s.2.2.2.2.2.2.2.2.2.2.2.2.2.2.2.2.2.2.2.2.2.2.2)
    (fun i s => s.1 = (sl_go a1 a2 a3 a4 a5 a8 a6 a7 i).1 ∧ ∃ c b1 b2 b3 b4 b5, sl_PO (c, b1, b2, b3, b4, b5, (sl_go a1 a2 a3 a4 a5 a8 a6 a7 i).2.1, (sl_go a1 a2 a3 a4 a5 a8 a6 a7 i).2.2, a8) s.2) e 0 (0, un) (by omega) ?_ ?_ ?_
  · obtain ⟨c, b1, b2, b3, b4, b5, b6, b7, b8⟩ := p
    have g6 : b6 = a6 := h6
    have g7 : b7 = a7 := h7
    have g8 : b8 = a8 := h8
    subst g6 g7 g8
    exact ⟨rfl, c, b1, b2, b3, b4, b5, hn⟩
  · rintro n ⟨x, v⟩ ⟨h1, c, b1, b2, b3, b4, b5, h2⟩
    have h1' : x = (sl_go a1 a2 a3 a4 a5 a8 a6 a7 e).1 := h1
    subst h1'
    exact pk_le e e (fun _ => sl_l185 hm h2 rfl rfl hl) (fun z => absurd z (by omega))
  · rintro n i ⟨x, v⟩ hi ⟨h1, c, b1, b2, b3, b4, b5, h2⟩ hw
    have h1' : x = (sl_go a1 a2 a3 a4 a5 a8 a6 a7 i).1 := h1
    subst h1'
    refine pk_le e i (fun z => absurd z (by omega)) (fun _ => ?_)
    by_cases z : (sl_go a1 a2 a3 a4 a5 a8 a6 a7 i).1 = 0
    · refine br_t z ?_
      obtain ⟨ge, gr, gl, gv, b9, b10, b11, b12, b13, b14, b15, b16, b17, b18, e0, _⟩ := h2
      have e0' : v = _ := e0
      subst e0'
      have x2 : (2 : Int32) * nI i = nI (2 * i) := pk_mul 2 i
      have x21 : nI (2 * i) + 1 = nI (2 * i + 1) := nI_1 (2 * i)
      show vp_in (2 * nI i) L ∧ vp_in (2 * nI i + 1) L ∧ _
      rw [x2, x21, nI_clamp (show 2 * i < 2 ^ 31 by omega), nI_clamp (show 2 * i + 1 < 2 ^ 31 by omega)]
      refine ⟨pk_in (2 * i) L (by omega), pk_in (2 * i + 1) L (by omega), ?_⟩
      obtain ⟨hiv, hap⟩ := hd i hi
      refine hap 0 b1 b2 b3 b4 b5 _ _ a8 _ _ ⟨ge, 0, gl, gv, b9, b10, b11, b12, b13, b14, b15, b16, b17, b18, rfl, .inl rfl⟩ (by omega) (fun z => absurd z (by omega)) (fun _ u' hu' => ?_)
      have hv1 : sl_PV (1, upd b1 0 (a1 i), upd b2 0 (a2 i), upd b3 0 (a3 i), upd b4 0 (a4 i), upd b5 0 (a5 i), (sl_go a1 a2 a3 a4 a5 a8 a6 a7 i).2.1, (sl_go a1 a2 a3 a4 a5 a8 a6 a7 i).2.2, a8) :=
        sl_Pv_add (c := 0) ⟨Nat.zero_le 14, fun j hj => absurd hj (Nat.not_lt_zero j)⟩ (by decide) hiv
      have hu1 : sl_PO (1, upd b1 0 (a1 i), upd b2 0 (a2 i), upd b3 0 (a3 i), upd b4 0 (a4 i), upd b5 0 (a5 i), (sl_go a1 a2 a3 a4 a5 a8 a6 a7 i).2.1, (sl_go a1 a2 a3 a4 a5 a8 a6 a7 i).2.2, a8) u' := hu'
      refine sl_runP hv1 hu1 (fun u2 hu2 _ => ?_)
      have gi : sl_go a1 a2 a3 a4 a5 a8 a6 a7 (i + 1) = (if sl_ex (a1 i) (a3 i) (a5 i) a8 (sl_go a1 a2 a3 a4 a5 a8 a6 a7 i).2.1 = 0 then
          (0, sl_nR (a1 i) (a2 i) (a3 i) (a4 i) (a5 i) (sl_go a1 a2 a3 a4 a5 a8 a6 a7 i).2.1 (sl_go a1 a2 a3 a4 a5 a8 a6 a7 i).2.2, sl_nM (a1 i) (a3 i) (a4 i) (a5 i) (sl_go a1 a2 a3 a4 a5 a8 a6 a7 i).2.1 (sl_go a1 a2 a3 a4 a5 a8 a6 a7 i).2.2)
          else (sl_ex (a1 i) (a3 i) (a5 i) a8 (sl_go a1 a2 a3 a4 a5 a8 a6 a7 i).2.1 + 4 * nI i, (sl_go a1 a2 a3 a4 a5 a8 a6 a7 i).2)) := by
        rw [sl_go, if_pos z]
      have gp : sl_gp (1, upd b1 0 (a1 i), upd b2 0 (a2 i), upd b3 0 (a3 i), upd b4 0 (a4 i), upd b5 0 (a5 i), (sl_go a1 a2 a3 a4 a5 a8 a6 a7 i).2.1, (sl_go a1 a2 a3 a4 a5 a8 a6 a7 i).2.2, a8) = (if sl_ex (a1 i) (a3 i) (a5 i) a8 (sl_go a1 a2 a3 a4 a5 a8 a6 a7 i).2.1 = 0 then
          (0, sl_nR (a1 i) (a2 i) (a3 i) (a4 i) (a5 i) (sl_go a1 a2 a3 a4 a5 a8 a6 a7 i).2.1 (sl_go a1 a2 a3 a4 a5 a8 a6 a7 i).2.2, sl_nM (a1 i) (a3 i) (a4 i) (a5 i) (sl_go a1 a2 a3 a4 a5 a8 a6 a7 i).2.1 (sl_go a1 a2 a3 a4 a5 a8 a6 a7 i).2.2)
          else (sl_ex (a1 i) (a3 i) (a5 i) a8 (sl_go a1 a2 a3 a4 a5 a8 a6 a7 i).2.1 + 4 * nI 0, (sl_go a1 a2 a3 a4 a5 a8 a6 a7 i).2)) := by
        show sl_go (upd b1 0 (a1 i)) (upd b2 0 (a2 i)) (upd b3 0 (a3 i)) (upd b4 0 (a4 i)) (upd b5 0 (a5 i)) a8 (sl_go a1 a2 a3 a4 a5 a8 a6 a7 i).2.1 (sl_go a1 a2 a3 a4 a5 a8 a6 a7 i).2.2 (0 + 1) = _
        rw [sl_go, sl_go, if_pos rfl, pk_us, pk_us, pk_us, pk_us, pk_us]
      have hu3 : sl_PO (1, upd b1 0 (a1 i), upd b2 0 (a2 i), upd b3 0 (a3 i), upd b4 0 (a4 i), upd b5 0 (a5 i), (sl_gp (1, upd b1 0 (a1 i), upd b2 0 (a2 i), upd b3 0 (a3 i), upd b4 0 (a4 i), upd b5 0 (a5 i), (sl_go a1 a2 a3 a4 a5 a8 a6 a7 i).2.1, (sl_go a1 a2 a3 a4 a5 a8 a6 a7 i).2.2, a8)).2.1, (sl_gp (1, upd b1 0 (a1 i), upd b2 0 (a2 i), upd b3 0 (a3 i), upd b4 0 (a4 i), upd b5 0 (a5 i), (sl_go a1 a2 a3 a4 a5 a8 a6 a7 i).2.1, (sl_go a1 a2 a3 a4 a5 a8 a6 a7 i).2.2, a8)).2.2, a8) u2 := hu2
      rw [gp] at hu3
      rw [gp]
      by_cases y : sl_ex (a1 i) (a3 i) (a5 i) a8 (sl_go a1 a2 a3 a4 a5 a8 a6 a7 i).2.1 = 0
      · rw [if_pos y] at hu3 gi
        rw [if_pos y]
        refine br_t rfl (nm_r (nI_1 i) (hw (0, u2) ⟨?_, 1, upd b1 0 (a1 i), upd b2 0 (a2 i), upd b3 0 (a3 i), upd b4 0 (a4 i), upd b5 0 (a5 i), ?_⟩))
        · rw [gi]
        · rw [gi]
          exact hu3
      · rw [if_neg y] at hu3 gi
        rw [if_neg y]
        have y0 : sl_ex (a1 i) (a3 i) (a5 i) a8 (sl_go a1 a2 a3 a4 a5 a8 a6 a7 i).2.1 + 4 * nI 0 = sl_ex (a1 i) (a3 i) (a5 i) a8 (sl_go a1 a2 a3 a4 a5 a8 a6 a7 i).2.1 := by
          rcases sl_ex_v (a1 i) (a3 i) (a5 i) a8 (sl_go a1 a2 a3 a4 a5 a8 a6 a7 i).2.1 with q | q | q <;> rw [q] <;> decide
        rw [y0]
        refine br_f y (nm_e (nm_r (nI_1 i) (hw (_, u2) ⟨?_, 1, upd b1 0 (a1 i), upd b2 0 (a2 i), upd b3 0 (a3 i), upd b4 0 (a4 i), upd b5 0 (a5 i), ?_⟩)))
        · rw [gi]
        · rw [gi]
          exact hu3
    · have st := sl_go_stay e z (by omega)
      refine br_f z ?_
      rw [st]
      rw [st] at hm hl
      exact sl_l185 hm h2 rfl rfl hl
theorem sl_l109 {um un : St1} {p : sl_Pic} (he : e ≤ 14) (heL : 2 * e ≤ L) (hL : L ≤ 260) (hd : ∀ j, j < e → sl_Dec (xs (2 * j)) (xs (2 * j + 1)) (a1 j) (a2 j) (a3 j) (a4 j) (a5 j))
    (hm : sl_PO (e, a1, a2, a3, a4, a5, a6, a7, a8) um)
    (hn : sl_PO p un) (h6 : p.2.2.2.2.2.2.1 = a6) (h7 : p.2.2.2.2.2.2.2.1 = a7) (h8 : p.2.2.2.2.2.2.2.2 = a8) :
    wL_law_109 (fun r => r = 1) L xs (nI e) kc ks um.1 um.2.1 um.2.2.1 um.2.2.2.1 um.2.2.2.2.1 um.2.2.2.2.2.1 um.2.2.2.2.2.2.1 um.2.2.2.2.2.2.2.1 um.2.2.2.2.2.2.2.2.1 um.2.2.2.2.2.2.2.2.2.1 um.2.2.2.2.2.2.2.2.2.2.1 um.2.2.2.2.2.2.2.2.2.2.2.1 um.2.2.2.2.2.2.2.2.2.2.2.2.1 um.2.2.2.2.2.2.2.2.2.2.2.2.2.1 um.2.2.2.2.2.2.2.2.2.2.2.2.2.2.1 um.2.2.2.2.2.2.2.2.2.2.2.2.2.2.2.1 um.2.2.2.2.2.2.2.2.2.2.2.2.2.2.2.2.1 um.2.2.2.2.2.2.2.2.2.2.2.2.2.2.2.2.2.1 um.2.2.2.2.2.2.2.2.2.2.2.2.2.2.2.2.2.2.1 um.2.2.2.2.2.2.2.2.2.2.2.2.2.2.2.2.2.2.2.1 um.2.2.2.2.2.2.2.2.2.2.2.2.2.2.2.2.2.2.2.2.1 um.2.2.2.2.2.2.2.2.2.2.2.2.2.2.2.2.2.2.2.2.2.1 um.2.2.2.2.2.2.2.2.2.2.2.2.2.2.2.2.2.2.2.2.2.2 un.1 un.2.1 un.2.2.1 un.2.2.2.1 un.2.2.2.2.1 un.2.2.2.2.2.1 un.2.2.2.2.2.2.1 un.2.2.2.2.2.2.2.1 un.2.2.2.2.2.2.2.2.1 un.2.2.2.2.2.2.2.2.2.1 un.2.2.2.2.2.2.2.2.2.2.1 un.2.2.2.2.2.2.2.2.2.2.2.1 un.2.2.2.2.2.2.2.2.2.2.2.2.1 un.2.2.2.2.2.2.2.2.2.2.2.2.2.1 un.2.2.2.2.2.2.2.2.2.2.2.2.2.2.1 un.2.2.2.2.2.2.2.2.2.2.2.2.2.2.2.1 un.2.2.2.2.2.2.2.2.2.2.2.2.2.2.2.2.1 un.2.2.2.2.2.2.2.2.2.2.2.2.2.2.2.2.2.1 un.2.2.2.2.2.2.2.2.2.2.2.2.2.2.2.2.2.2.1 un.2.2.2.2.2.2.2.2.2.2.2.2.2.2.2.2.2.2.2.1 un.2.2.2.2.2.2.2.2.2.2.2.2.2.2.2.2.2.2.2.2.1 un.2.2.2.2.2.2.2.2.2.2.2.2.2.2.2.2.2.2.2.2.2.1 un.2.2.2.2.2.2.2.2.2.2.2.2.2.2.2.2.2.2.2.2.2.2 := by
  have hv : sl_PV (e, a1, a2, a3, a4, a5, a6, a7, a8) := ⟨he, fun j hj => (hd j hj).1⟩
  refine sl_runP hv hm (fun u' hu' hl => ?_)
  exact sl_l121 he heL hL hd hu' hl hn h6 h7 h8
end
theorem sl_l65 {L : Nat} {xs : Nat → Int32} {kc ks : Nat} {um un : St1} {a1 a2 a3 a4 a5 a6 a7 a8 : Nat → Int32} {p : sl_Pic} (hL : L ≤ 260) (hm : sl_PO (0, a1, a2, a3, a4, a5, a6, a7, a8) um)
    (hn : sl_PO p un) (h6 : p.2.2.2.2.2.2.1 = a6) (h7 : p.2.2.2.2.2.2.2.1 = a7) (h8 : p.2.2.2.2.2.2.2.2 = a8) :
    ∃ n, wL_law_65 (fun r => r = 1) L xs kc ks n 0 0 um.1 um.2.1 um.2.2.1 um.2.2.2.1 um.2.2.2.2.1 um.2.2.2.2.2.1 um.2.2.2.2.2.2.1 um.2.2.2.2.2.2.2.1 um.2.2.2.2.2.2.2.2.1 um.2.2.2.2.2.2.2.2.2.1 um.2.2.2.2.2.2.2.2.2.2.1 um.2.2.2.2.2.2.2.2.2.2.2.1 um.2.2.2.2.2.2.2.2.2.2.2.2.1 um.2.2.2.2.2.2.2.2.2.2.2.2.2.1 um.2.2.2.2.2.2.2.2.2.2.2.2.2.2.1 um.2.2.2.2.2.2.2.2.2.2.2.2.2.2.2.1 um.2.2.2.2.2.2.2.2.2.2.2.2.2.2.2.2.1 um.2.2.2.2.2.2.2.2.2.2.2.2.2.2.2.2.2.1 um.2.2.2.2.2.2.2.2.2.2.2.2.2.2.2.2.2.2.1 um.2.2.2.2.2.2.2.2.2.2.2.2.2.2.2.2.2.2.2.1 um.2.2.2.2.2.2.2.2.2.2.2.2.2.2.2.2.2.2.2.2.1 um.2.2.2.2.2.2.2.2.2.2.2.2.2.2.2.2.2.2.2.2.2.1 um.2.2.2.2.2.2.2.2.2.2.2.2.2.2.2.2.2.2.2.2.2.2 un.1 un.2.1 un.2.2.1 un.2.2.2.1 un.2.2.2.2.1 un.2.2.2.2.2.1 un.2.2.2.2.2.2.1 un.2.2.2.2.2.2.2.1 un.2.2.2.2.2.2.2.2.1 un.2.2.2.2.2.2.2.2.2.1 un.2.2.2.2.2.2.2.2.2.2.1 un.2.2.2.2.2.2.2.2.2.2.2.1 un.2.2.2.2.2.2.2.2.2.2.2.2.1 un.2.2.2.2.2.2.2.2.2.2.2.2.2.1 un.2.2.2.2.2.2.2.2.2.2.2.2.2.2.1 un.2.2.2.2.2.2.2.2.2.2.2.2.2.2.2.1 un.2.2.2.2.2.2.2.2.2.2.2.2.2.2.2.2.1 un.2.2.2.2.2.2.2.2.2.2.2.2.2.2.2.2.2.1 un.2.2.2.2.2.2.2.2.2.2.2.2.2.2.2.2.2.2.1 un.2.2.2.2.2.2.2.2.2.2.2.2.2.2.2.2.2.2.2.1 un.2.2.2.2.2.2.2.2.2.2.2.2.2.2.2.2.2.2.2.2.1 un.2.2.2.2.2.2.2.2.2.2.2.2.2.2.2.2.2.2.2.2.2.1 un.2.2.2.2.2.2.2.2.2.2.2.2.2.2.2.2.2.2.2.2.2.2 := by
  have x2 : ∀ i : Nat, nI (2 * i) + 1 = nI (2 * i + 1) := fun i => nI_1 (2 * i)
  refine pk_loop (fun n i (s : St1) => wL_law_65 (fun r => r = 1) L xs kc ks n (nI i) (nI (2 * i)) s.1 s.2.1 s.2.2.1 s.2.2.2.1 s.2.2.2.2.1 s.2.2.2.2.2.1 s.2.2.2.2.2.2.1 s.2.2.2.2.2.2.2.1 s.2.2.2.2.2.2.2.2.1 s.2.2.2.2.2.2.2.2.2.1 s.2.2.2.2.2.2.2.2.2.2.1 s.2.2.2.2.2.2.2.2.2.2.2.1 s.2.2.2.2.2.2.2.2.2.2.2.2.1 s.2.2.2.2.2.2.2.2.2.2.2.2.2.1 s.2.2.2.2.2.2.2.2.2.2.2.2.2.2.1 s.2.2.2.2.2.2.2.2.2.2.2.2.2.2.2.1 s.2.2.2.2.2.2.2.2.2.2.2.2.2.2.2.2.1 s.2.2.2.2.2.2.2.2.2.2.2.2.2.2.2.2.2.1 s.2.2.2.2.2.2.2.2.2.2.2.2.2.2.2.2.2.2.1 s.2.2.2.2.2.2.2.2.2.2.2.2.2.2.2.2.2.2.2.1 s.2.2.2.2.2.2.2.2.2.2.2.2.2.2.2.2.2.2.2.2.1 s.2.2.2.2.2.2.2.2.2.2.2.2.2.2.2.2.2.2.2.2.2.1 s.2.2.2.2.2.2.2.2.2.2.2.2.2.2.2.2.2.2.2.2.2.2 un.1 un.2.1 un.2.2.1 un.2.2.2.1 un.2.2.2.2.1 un.2.2.2.2.2.1 un.2.2.2.2.2.2.1 un.2.2.2.2.2.2.2.1 un.2.2.2.2.2.2.2.2.1 un.2.2.2.2.2.2.2.2.2.1 un.2.2.2.2.2.2.2.2.2.2.1 un.2.2.2.2.2.2.2.2.2.2.2.1 un.2.2.2.2.2.2.2.2.2.2.2.2.1 un.2.2.2.2.2.2.2.2.2.2.2.2.2.1 un.2.2.2.2.2.2.2.2.2.2.2.2.2.2.1 un.2.2.2.2.2.2.2.2.2.2.2.2.2.2.2.1 un.2.2.2.2.2.2.2.2.2.2.2.2.2.2.2.2.1 un.2.2.2.2.2.2.2.2.2.2.2.2.2.2.2.2.2.1 un.2.2.2.2.2.2.2.2.2.2.2.2.2.2.2.2.2.2.1 un.2.2.2.2.2.2.2.2.2.2.2.2.2.2.2.2.2.2.2.1 un.2.2.2.2.2.2.2.2.2.2.2.2.2.2.2.2.2.2.2.2.1 un.2.2.2.2.2.2.2.2.2.2.2.2.2.2.2.2.2.2.2.2.2.1 un.2.2.2.2.2.2.2.2.2.2.2.2.2.2.2.2.2.2.2.2.2.2)
    (fun i s => ∃ a1 a2 a3 a4 a5, sl_PO (i, a1, a2, a3, a4, a5, a6, a7, a8) s ∧ ∀ j, j < i → sl_Dec (xs (2 * j)) (xs (2 * j + 1)) (a1 j) (a2 j) (a3 j) (a4 j) (a5 j)) (min (L / 2) 14) 0 um (by omega) ⟨a1, a2, a3, a4, a5, hm, fun j hj => absurd hj (by omega)⟩ ?_ ?_
  · rintro n s ⟨a1, a2, a3, a4, a5, hs, hd⟩
    have g : wL_law_109 (fun r => r = 1) L xs (nI (min (L / 2) 14)) kc ks s.1 s.2.1 s.2.2.1 s.2.2.2.1 s.2.2.2.2.1 s.2.2.2.2.2.1 s.2.2.2.2.2.2.1 s.2.2.2.2.2.2.2.1 s.2.2.2.2.2.2.2.2.1 s.2.2.2.2.2.2.2.2.2.1 s.2.2.2.2.2.2.2.2.2.2.1 s.2.2.2.2.2.2.2.2.2.2.2.1 s.2.2.2.2.2.2.2.2.2.2.2.2.1 s.2.2.2.2.2.2.2.2.2.2.2.2.2.1 s.2.2.2.2.2.2.2.2.2.2.2.2.2.2.1 s.2.2.2.2.2.2.2.2.2.2.2.2.2.2.2.1 s.2.2.2.2.2.2.2.2.2.2.2.2.2.2.2.2.1 s.2.2.2.2.2.2.2.2.2.2.2.2.2.2.2.2.2.1 s.2.2.2.2.2.2.2.2.2.2.2.2.2.2.2.2.2.2.1 s.2.2.2.2.2.2.2.2.2.2.2.2.2.2.2.2.2.2.2.1 s.2.2.2.2.2.2.2.2.2.2.2.2.2.2.2.2.2.2.2.2.1 s.2.2.2.2.2.2.2.2.2.2.2.2.2.2.2.2.2.2.2.2.2.1 s.2.2.2.2.2.2.2.2.2.2.2.2.2.2.2.2.2.2.2.2.2.2 un.1 un.2.1 un.2.2.1 un.2.2.2.1 un.2.2.2.2.1 un.2.2.2.2.2.1 un.2.2.2.2.2.2.1 un.2.2.2.2.2.2.2.1 un.2.2.2.2.2.2.2.2.1 un.2.2.2.2.2.2.2.2.2.1 un.2.2.2.2.2.2.2.2.2.2.1 un.2.2.2.2.2.2.2.2.2.2.2.1 un.2.2.2.2.2.2.2.2.2.2.2.2.1 un.2.2.2.2.2.2.2.2.2.2.2.2.2.1 un.2.2.2.2.2.2.2.2.2.2.2.2.2.2.1 un.2.2.2.2.2.2.2.2.2.2.2.2.2.2.2.1 un.2.2.2.2.2.2.2.2.2.2.2.2.2.2.2.2.1 un.2.2.2.2.2.2.2.2.2.2.2.2.2.2.2.2.2.1 un.2.2.2.2.2.2.2.2.2.2.2.2.2.2.2.2.2.2.1 un.2.2.2.2.2.2.2.2.2.2.2.2.2.2.2.2.2.2.2.1 un.2.2.2.2.2.2.2.2.2.2.2.2.2.2.2.2.2.2.2.2.1 un.2.2.2.2.2.2.2.2.2.2.2.2.2.2.2.2.2.2.2.2.2.1 un.2.2.2.2.2.2.2.2.2.2.2.2.2.2.2.2.2.2.2.2.2.2 := sl_l109 (by omega) (by omega) hL hd hs hn h6 h7 h8
    refine pk_le L (2 * min (L / 2) 14 + 1) (fun _ => g) (fun z => ?_) rfl (x2 _)
    exact pk_le 14 (min (L / 2) 14) (fun _ => g) (fun z => absurd z (by omega))
  · rintro n i s hi ⟨a1, a2, a3, a4, a5, hs, hd⟩ hw
    refine pk_le L (2 * i + 1) (fun z => absurd z (by omega)) (fun z => ?_) rfl (x2 _)
    refine pk_le 14 i (fun z => absurd z (by omega)) (fun _ => ?_)
    rw [x2, nI_clamp (show 2 * i < 2 ^ 31 by omega), nI_clamp (show 2 * i + 1 < 2 ^ 31 by omega)]
    refine ⟨pk_in (2 * i) L (by omega), pk_in (2 * i + 1) L (by omega), ?_⟩
    obtain ⟨k, d, l, r, v, hk⟩ := sl_dec (xs (2 * i)) (xs (2 * i + 1))
    refine hk.2 i a1 a2 a3 a4 a5 a6 a7 a8 _ _ hs (by omega) (fun z => absurd z (by omega)) (fun _ u' hu' => ?_)
    refine br_t rfl (nm_r (nI_1 i) (nm_r (e' := nI (2 * (i + 1))) (nI_add (2 * i) 2) (hw u' ⟨upd a1 i k, upd a2 i d, upd a3 i l, upd a4 i r, upd a5 i v, hu', fun j hj => ?_⟩)))
    by_cases e : j = i
    · rw [e, pk_us, pk_us, pk_us, pk_us, pk_us]
      exact hk
    · rw [pk_un e, pk_un e, pk_un e, pk_un e, pk_un e]
      exact hd j (by omega)
theorem sl_l18 {L : Nat} {xs : Nat → Int32} {kc ks : Nat} {um un : St1} {p : sl_Pic} (hL : L ≤ 260) (hv : sl_PV p) (hm : sl_PO p um) (hn : sl_PO p un) :
    ∃ n, wL_law_18 (fun r => r = 1) L xs kc ks n 0 um.1 um.2.1 um.2.2.1 um.2.2.2.1 um.2.2.2.2.1 um.2.2.2.2.2.1 um.2.2.2.2.2.2.1 um.2.2.2.2.2.2.2.1 um.2.2.2.2.2.2.2.2.1 um.2.2.2.2.2.2.2.2.2.1 um.2.2.2.2.2.2.2.2.2.2.1 um.2.2.2.2.2.2.2.2.2.2.2.1 um.2.2.2.2.2.2.2.2.2.2.2.2.1 um.2.2.2.2.2.2.2.2.2.2.2.2.2.1 um.2.2.2.2.2.2.2.2.2.2.2.2.2.2.1 um.2.2.2.2.2.2.2.2.2.2.2.2.2.2.2.1 um.2.2.2.2.2.2.2.2.2.2.2.2.2.2.2.2.1 um.2.2.2.2.2.2.2.2.2.2.2.2.2.2.2.2.2.1 um.2.2.2.2.2.2.2.2.2.2.2.2.2.2.2.2.2.2.1 um.2.2.2.2.2.2.2.2.2.2.2.2.2.2.2.2.2.2.2.1 um.2.2.2.2.2.2.2.2.2.2.2.2.2.2.2.2.2.2.2.2.1 um.2.2.2.2.2.2.2.2.2.2.2.2.2.2.2.2.2.2.2.2.2.1 um.2.2.2.2.2.2.2.2.2.2.2.2.2.2.2.2.2.2.2.2.2.2 un.1 un.2.1 un.2.2.1 un.2.2.2.1 un.2.2.2.2.1 un.2.2.2.2.2.1 un.2.2.2.2.2.2.1 un.2.2.2.2.2.2.2.1 un.2.2.2.2.2.2.2.2.1 un.2.2.2.2.2.2.2.2.2.1 un.2.2.2.2.2.2.2.2.2.2.1 un.2.2.2.2.2.2.2.2.2.2.2.1 un.2.2.2.2.2.2.2.2.2.2.2.2.1 un.2.2.2.2.2.2.2.2.2.2.2.2.2.1 un.2.2.2.2.2.2.2.2.2.2.2.2.2.2.1 un.2.2.2.2.2.2.2.2.2.2.2.2.2.2.2.1 un.2.2.2.2.2.2.2.2.2.2.2.2.2.2.2.2.1 un.2.2.2.2.2.2.2.2.2.2.2.2.2.2.2.2.2.1 un.2.2.2.2.2.2.2.2.2.2.2.2.2.2.2.2.2.2.1 un.2.2.2.2.2.2.2.2.2.2.2.2.2.2.2.2.2.2.2.1 un.2.2.2.2.2.2.2.2.2.2.2.2.2.2.2.2.2.2.2.2.1 un.2.2.2.2.2.2.2.2.2.2.2.2.2.2.2.2.2.2.2.2.2.1 un.2.2.2.2.2.2.2.2.2.2.2.2.2.2.2.2.2.2.2.2.2.2 := by
  have x2 : ∀ i : Nat, nI (2 * i) + 1 = nI (2 * i + 1) := fun i => nI_1 (2 * i)
  refine pk_loop (fun n i (s : St1 × St1) => wL_law_18 (fun r => r = 1) L xs kc ks n (nI (2 * i)) s.1.1 s.1.2.1 s.1.2.2.1 s.1.2.2.2.1 s.1.2.2.2.2.1 s.1.2.2.2.2.2.1 s.1.2.2.2.2.2.2.1 s.1.2.2.2.2.2.2.2.1 s.1.2.2.2.2.2.2.2.2.1 s.1.2.2.2.2.2.2.2.2.2.1 s.1.2.2.2.2.2.2.2.2.2.2.1 s.1.2.2.2.2.2.2.2.2.2.2.2.1 s.1.2.2.2.2.2.2.2.2.2.2.2.2.1 s.1.2.2.2.2.2.2.2.2.2.2.2.2.2.1 s.1.2.2.2.2.2.2.2.2.2.2.2.2.2.2.1 s.1.2.2.2.2.2.2.2.2.2.2.2.2.2.2.2.1 s.1.2.2.2.2.2.2.2.2.2.2.2.2.2.2.2.2.1 s.1.2.2.2.2.2.2.2.2.2.2.2.2.2.2.2.2.2.1 s.1.2.2.2.2.2.2.2.2.2.2.2.2.2.2.2.2.2.2.1 s.1.2.2.2.2.2.2.2.2.2.2.2.2.2.2.2.2.2.2.2.1 s.1.2.2.2.2.2.2.2.2.2.2.2.2.2.2.2.2.2.2.2.2.1 s.1.2.2.2.2.2.2.2.2.2.2.2.2.2.2.2.2.2.2.2.2.2.1 s.1.2.2.2.2.2.2.2.2.2.2.2.2.2.2.2.2.2.2.2.2.2.2 s.2.1 s.2.2.1 s.2.2.2.1 s.2.2.2.2.1 s.2.2.2.2.2.1 s.2.2.2.2.2.2.1 s.2.2.2.2.2.2.2.1 s.2.2.2.2.2.2.2.2.1 s.2.2.2.2.2.2.2.2.2.1 s.2.2.2.2.2.2.2.2.2.2.1 s.2.2.2.2.2.2.2.2.2.2.2.1 s.2.2.2.2.2.2.2.2.2.2.2.2.1 s.2.2.2.2.2.2.2.2.2.2.2.2.2.1 s.2.2.2.2.2.2.2.2.2.2.2.2.2.2.1 s.2.2.2.2.2.2.2.2.2.2.2.2.2.2.2.1 s.2.2.2.2.2.2.2.2.2.2.2.2.2.2.2.2.1 s.2.2.2.2.2.2.2.2.2.2.2.2.2.2.2.2.2.1 s.2.2.2.2.2.2.2.2.2.2.2.2.2.2.2.2.2.2.1 s.2.2.2.2.2.2.2.2.2.2.2.2.2.2.2.2.2.2.2.1 s.2.2.2.2.2.2.2.2.2.2.2.2.2.2.2.2.2.2.2.2.1 s.2.2.2.2.2.2.2.2.2.2.2.2.2.2.2.2.2.2.2.2.2.1 s.2.2.2.2.2.2.2.2.2.2.2.2.2.2.2.2.2.2.2.2.2.2.1 s.2.2.2.2.2.2.2.2.2.2.2.2.2.2.2.2.2.2.2.2.2.2.2)
    (fun i s => ∃ p, sl_PV p ∧ sl_PO p s.1 ∧ sl_PO p s.2) (L / 2) 0 (um, un) (by omega) ⟨p, hv, hm, hn⟩ ?_ ?_
  · rintro n ⟨u, v⟩ ⟨⟨c, a1, a2, a3, a4, a5, a6, a7, a8⟩, hp, hu, hv⟩
    refine pk_le L (2 * (L / 2) + 1) (fun _ => ?_) (fun z => absurd z (by omega)) rfl (x2 _)
    obtain ⟨fe, fr, fl, fv, a9, a10, a11, a12, a13, a14, a15, a16, a17, a18, e0, _⟩ := hu
    have e0' : u = _ := e0
    subst e0'
    exact sl_l65 (um := (0, fe, 0, fl, fv, a1, a2, a3, a4, a5, a6, a7, a8, a9, a10, a11, a12, a13, a14, a15, a16, a17, a18)) hL ⟨fe, 0, fl, fv, a9, a10, a11, a12, a13, a14, a15, a16, a17, a18, rfl, .inl rfl⟩ hv rfl rfl rfl
  · rintro n i ⟨u, v⟩ hi ⟨p, hp, hu, hv⟩ hw
    refine pk_le L (2 * i + 1) (fun z => absurd z (by omega)) (fun z => ?_) rfl (x2 _)
    rw [x2, nI_clamp (show 2 * i < 2 ^ 31 by omega), nI_clamp (show 2 * i + 1 < 2 ^ 31 by omega)]
    refine ⟨pk_in (2 * i) L (by omega), pk_in (2 * i + 1) L (by omega), ?_⟩
    obtain ⟨p', hp', ht⟩ := sl_turn (xs (2 * i)) (xs (2 * i + 1)) hp
    refine ht u hu _ (fun u' hu' => ⟨pk_in (2 * i) L (by omega), pk_in (2 * i + 1) L (by omega), ht v hv _ (fun v' hv' => ?_)⟩)
    exact nm_r (e' := nI (2 * (i + 1))) (nI_add (2 * i) 2) (hw (u', v') ⟨p', hp', hu', hv'⟩)
theorem sl_init {post : St1 → Prop} {c r l v : Int32} (h : post (c, (-1), r, l, v, (fun _ => 0), (fun _ => 0), (fun _ => 0), (fun _ => 0), (fun _ => 0), (fun _ => 0), (fun _ => 0), (fun _ => 0), (fun _ => 0), (fun _ => 0), (fun _ => 0), (fun _ => 0), (fun _ => 0), (fun _ => 0), (fun _ => 0), (fun _ => 0), (fun _ => 0), (fun _ => 0))) : wpX_init post 18 300 (c, 0, r, l, v) := by
  unfold wpX_init
  dsimp only
  iterate 36 refine ⟨by decide, ?_⟩
  exact h
theorem i_vc (xs : Nat → Int32) (L : Nat) (hL : L ≤ 260) : wpL_law (fun r => r = 1) L xs := by
  refine ⟨18, 300, by decide, by decide, sl_init ⟨by decide, by decide, 18, 300, by decide, by decide, sl_init ?_⟩⟩
  have h0 : sl_PO (0, (fun _ => 0), (fun _ => 0), (fun _ => 0), (fun _ => 0), (fun _ => 0), (fun _ => 0), (fun _ => 0), (fun _ => 0)) (0, (-1), 0, 0, 0, (fun _ => 0), (fun _ => 0), (fun _ => 0), (fun _ => 0), (fun _ => 0), (fun _ => 0), (fun _ => 0), (fun _ => 0), (fun _ => 0), (fun _ => 0), (fun _ => 0), (fun _ => 0), (fun _ => 0), (fun _ => 0), (fun _ => 0), (fun _ => 0), (fun _ => 0), (fun _ => 0)) :=
    ⟨-1, 0, 0, 0, _, _, _, _, _, _, _, _, _, _, rfl, .inl rfl⟩
  exact sl_l18 hL ⟨Nat.zero_le 14, fun j hj => absurd hj (Nat.not_lt_zero j)⟩ h0 h0
end
