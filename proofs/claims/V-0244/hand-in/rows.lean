section
theorem pk_us {f : Nat → Int32} {k : Nat} {x : Int32} : upd f k x k = x := if_pos rfl
theorem pk_un {f : Nat → Int32} {k j : Nat} {x : Int32} (h : j ≠ k) : upd f k x j = f j := if_neg h
theorem pk_sub {a b : Nat} (h : b ≤ a) : nI a - nI b = nI (a - b) := by
  obtain ⟨c, rfl⟩ : ∃ c, a = c + b := ⟨a - b, by omega⟩
  rw [← nI_add, Int32.add_sub_cancel, Nat.add_sub_cancel]
theorem pk_m1 (n : Nat) : nI (n + 1) + (-1) = nI n := by
  rw [← nI_1, Int32.add_assoc, show (1 : Int32) + (-1) = 0 from rfl, Int32.add_zero]
theorem pk_mul (a b : Nat) : nI a * nI b = nI (a * b) := (Int32.ofNat_mul a b).symm
theorem pk_div {a d : Nat} (ha : a < 2 ^ 31) (h0 : 0 < d) (hd : d < 2 ^ 31) : nI a / nI d = nI (a / d) := by
  apply Int32.toInt_inj.mp
  rw [lg_idiv_nonneg (by rw [nI_toInt ha]; omega) (by rw [nI_toInt hd]; omega), nI_toInt ha, nI_toInt hd, nI_toInt (Nat.lt_of_le_of_lt (Nat.div_le_self a d) ha)]
  first | rfl | exact (Int.natCast_ediv _ _).symm
theorem pk_rem {a d : Nat} (ha : a < 2 ^ 31) (h0 : 0 < d) (hd : d < 2 ^ 31) : nI a - nI a / nI d * nI d = nI (a % d) := by
  rw [pk_div ha h0 hd, pk_mul, pk_sub (Nat.div_mul_le_self a d)]
  exact congrArg nI (by have := Nat.div_add_mod' a d; omega)
theorem pk_sub_toInt {a b : Nat} (ha : a < 2 ^ 30) (hb : b < 2 ^ 30) : (nI a - nI b).toInt = (a : Int) - b := by
  rw [Int32.toInt_sub, nI_toInt (by omega), nI_toInt (by omega)]
  exact Int.bmod_eq_of_le (by omega) (by omega)
theorem pk_sneg {a b : Nat} (hb : b < 2 ^ 30) (h : a < b) : nI a - nI b < 0 := by
  rw [Int32.lt_iff_toInt_lt, pk_sub_toInt (by omega) hb, show (0 : Int32).toInt = 0 from by decide]
  omega
theorem pk_ix (x : Int32) {n : Nat} (hn : n < 2 ^ 31) : x < 0 ∨ nI n ≤ x ∨ ∃ j : Nat, j < n ∧ x = nI j := by
  by_cases h : x < 0
  · exact Or.inl h
  · obtain ⟨j, hj, rfl⟩ := nI_of h
    by_cases h2 : j < n
    · exact Or.inr (Or.inr ⟨j, h2, rfl⟩)
    · exact Or.inr (Or.inl (nI_le (by omega) hj))
theorem pk_le {x y : Int32} {A B : Prop} (a b : Nat) (f : a ≤ b → A) (g : b < a → B) (hx : x = nI a := by rfl) (hy : y = nI b := by rfl) (ha : a < 2 ^ 31 := by omega) (hb : b < 2 ^ 31 := by omega) : (x ≤ y → A) ∧ (¬ x ≤ y → B) := by
  subst hx hy
  rw [nI_leI ha hb]
  exact ⟨f, fun z => g (by omega)⟩
theorem pk_lt {x y : Int32} {A B : Prop} (a b : Nat) (f : a < b → A) (g : b ≤ a → B) (hx : x = nI a := by rfl) (hy : y = nI b := by rfl) (ha : a < 2 ^ 31 := by omega) (hb : b < 2 ^ 31 := by omega) : (x < y → A) ∧ (¬ x < y → B) := by
  subst hx hy
  rw [nI_ltI ha hb]
  exact ⟨f, fun z => g (by omega)⟩
theorem pk_eq {x y : Int32} {A B : Prop} (a b : Nat) (f : a = b → A) (g : a ≠ b → B) (hx : x = nI a := by rfl) (hy : y = nI b := by rfl) (ha : a < 2 ^ 31 := by omega) (hb : b < 2 ^ 31 := by omega) : (x = y → A) ∧ (¬ x = y → B) := by
  subst hx hy
  rw [nI_eq ha hb]
  exact ⟨f, g⟩
theorem pk_in {x : Int32} (n N : Nat) (h : n < N) (hx : x = nI n := by rfl) (hN : N < 2 ^ 31 := by omega) : vp_in x N := by
  subst hx
  exact vp_in_nI h hN
theorem pk_cl {x : Int32} (n : Nat) (hx : x = nI n := by rfl) (h : n < 2 ^ 31 := by omega) : x.toNatClampNeg = n := by
  subst hx
  exact nI_clamp h
theorem wb_tb (n : Nat) : (lN n).toBitVec = BitVec.ofNat 64 n := rfl
theorem wb_inj {a b : Int64} (h : a.toBitVec = b.toBitVec) : a = b := Int64.toBitVec_inj.mp h
theorem wb_tn {n : Nat} (h : n < 2 ^ 64) : (lN n).toBitVec.toNat = n := by rw [wb_tb, BitVec.toNat_ofNat, Nat.mod_eq_of_lt h]
theorem wb_of (x : Int64) : ∃ n, n < 2 ^ 64 ∧ x = lN n := ⟨x.toBitVec.toNat, x.toBitVec.isLt, wb_inj (by rw [wb_tb]; simp)⟩
theorem wb_of32 (x : Int32) : ∃ n, n < 2 ^ 32 ∧ x = nI n := ⟨x.toBitVec.toNat, x.toBitVec.isLt, Int32.toBitVec_inj.mp (by show _ = BitVec.ofNat 32 _; simp)⟩
theorem wb_c : ∀ k, k < 64 → ((nI k).toInt64 &&& 63) = lN k := by decide +kernel
theorem wb_cu : ∀ k, k < 64 → ((nI k).toInt64.toUInt64 &&& Int64.toUInt64 63) = UInt64.ofNat k := by decide +kernel
theorem wb_sm : ∀ k, k < 64 → (BitVec.ofNat 64 k).smod 64 = BitVec.ofNat 64 k := by decide +kernel
theorem wb_pw {a b : Nat} (h : a ≤ b) : 2 ^ b = 2 ^ a * 2 ^ (b - a) := by rw [← Nat.pow_add]; congr 1; omega
theorem wb_lt2 {a b : Nat} (h : a < b) : 2 ^ a < 2 ^ b := Nat.pow_lt_pow_right (by decide) h
theorem wb_mod (n : Nat) : lN n = lN (n % 2 ^ 64) := wb_inj (by rw [wb_tb, wb_tb]; apply BitVec.eq_of_toNat_eq; rw [BitVec.toNat_ofNat, BitVec.toNat_ofNat, Nat.mod_mod])
theorem wb_shr {n k : Nat} (hn : n < 2 ^ 64) (hk : k < 64) : ((lN n).toUInt64 >>> ((nI k).toInt64.toUInt64 &&& Int64.toUInt64 63)).toInt64 = lN (n / 2 ^ k) := by
  rw [wb_cu k hk]
  apply wb_inj
  apply BitVec.eq_of_toNat_eq
  show ((lN n).toUInt64 >>> UInt64.ofNat k).toNat = (BitVec.ofNat 64 _).toNat
  have h1 : (UInt64.ofNat k).toNat = k := by
    show (BitVec.ofNat 64 k).toNat = k
    rw [BitVec.toNat_ofNat, Nat.mod_eq_of_lt (by omega)]
  have h2 : (lN n).toUInt64.toNat = n := wb_tn hn
  rw [UInt64.toNat_shiftRight, h1, h2, Nat.mod_eq_of_lt hk, Nat.shiftRight_eq_div_pow, BitVec.toNat_ofNat, Nat.mod_eq_of_lt (Nat.lt_of_le_of_lt (Nat.div_le_self _ _) hn)]
theorem wb_shl (n : Nat) {k : Nat} (hk : k < 64) : lN n <<< ((nI k).toInt64 &&& 63) = lN (n * 2 ^ k) := by
  rw [wb_c k hk]
  apply wb_inj
  rw [Int64.toBitVec_shiftLeft, wb_tb, wb_tb, wb_tb, wb_sm k hk]
  apply BitVec.eq_of_toNat_eq
  rw [BitVec.shiftLeft_eq', BitVec.toNat_shiftLeft, BitVec.toNat_ofNat, BitVec.toNat_ofNat, BitVec.toNat_ofNat, Nat.mod_eq_of_lt (show k < 2 ^ 64 by omega), Nat.shiftLeft_eq, Nat.mul_mod, Nat.mod_mod, ← Nat.mul_mod]
theorem wb_and {a b : Nat} (ha : a < 2 ^ 64) (hb : b < 2 ^ 64) : lN a &&& lN b = lN (a &&& b) := by
  apply wb_inj
  rw [Int64.toBitVec_and, wb_tb, wb_tb, wb_tb]
  apply BitVec.eq_of_toNat_eq
  rw [BitVec.toNat_and, BitVec.toNat_ofNat, BitVec.toNat_ofNat, BitVec.toNat_ofNat, Nat.mod_eq_of_lt ha, Nat.mod_eq_of_lt hb, Nat.mod_eq_of_lt (Nat.and_lt_two_pow _ hb)]
theorem wb_or {a b : Nat} (ha : a < 2 ^ 64) (hb : b < 2 ^ 64) : lN a ||| lN b = lN (a ||| b) := by
  apply wb_inj
  rw [Int64.toBitVec_or, wb_tb, wb_tb, wb_tb]
  apply BitVec.eq_of_toNat_eq
  rw [BitVec.toNat_or, BitVec.toNat_ofNat, BitVec.toNat_ofNat, BitVec.toNat_ofNat, Nat.mod_eq_of_lt ha, Nat.mod_eq_of_lt hb, Nat.mod_eq_of_lt (Nat.or_lt_two_pow ha hb)]
theorem wb_mask {n k : Nat} (hn : n < 2 ^ 64) (hk : k < 64) : lN n &&& lN (2 ^ k - 1) = lN (n % 2 ^ k) := by
  rw [wb_and hn (by have := wb_lt2 hk; omega), Nat.and_two_pow_sub_one_eq_mod]
theorem wb_a1 {n : Nat} (hn : n < 2 ^ 64) : lN n &&& 1 = lN (n % 2) := wb_mask (k := 1) hn (by decide)
end
section
/-! lists, texts, regions -/
def ur_at : List Int32 → Nat → Int32
  | [], _ => 0
  | c :: _, 0 => c
  | _ :: t, i + 1 => ur_at t i
theorem ur_at_big : ∀ (t : List Int32) (i : Nat), t.length ≤ i → ur_at t i = 0
  | [], _, _ => rfl
  | _ :: _, 0, h => absurd h (by simp)
  | _ :: t, i + 1, h => ur_at_big t i (Nat.le_of_succ_le_succ h)
theorem ur_at_l : ∀ (x y : List Int32) (i : Nat), i < x.length → ur_at (x ++ y) i = ur_at x i
  | [], _, _, h => absurd h (Nat.not_lt_zero _)
  | _ :: _, _, 0, _ => rfl
  | _ :: x, y, i + 1, h => ur_at_l x y i (Nat.lt_of_succ_lt_succ h)
theorem ur_at_r : ∀ (x y : List Int32) (i : Nat), ur_at (x ++ y) (x.length + i) = ur_at y i
  | [], y, i => by simp
  | a :: x, y, i => by
    have e : (a :: x).length + i = (x.length + i) + 1 := by simp only [List.length_cons]; omega
    rw [e]; exact ur_at_r x y i
theorem ur_at_r' {x y : List Int32} {j : Nat} (h : x.length ≤ j) : ur_at (x ++ y) j = ur_at y (j - x.length) := by
  obtain ⟨i, rfl⟩ : ∃ i, j = x.length + i := ⟨j - x.length, by omega⟩
  rw [ur_at_r, Nat.add_sub_cancel_left]
theorem ur_at_mem : ∀ (t : List Int32) (i : Nat), i < t.length → ur_at t i ∈ t
  | [], _, h => absurd h (Nat.not_lt_zero _)
  | _ :: _, 0, _ => List.mem_cons_self
  | _ :: t, i + 1, h => List.mem_cons_of_mem _ (ur_at_mem t i (Nat.lt_of_succ_lt_succ h))
theorem ur_mem_at : ∀ (t : List Int32) (c : Int32), c ∈ t → ∃ i, i < t.length ∧ ur_at t i = c
  | [], _, h => absurd h List.not_mem_nil
  | a :: t, c, h => by
    rcases List.mem_cons.mp h with e | e
    · exact ⟨0, by simp, e.symm⟩
    · obtain ⟨i, hi, he⟩ := ur_mem_at t c e
      exact ⟨i + 1, by simp only [List.length_cons]; omega, he⟩
theorem ur_ext : ∀ (x y : List Int32), x.length = y.length → (∀ i, i < x.length → ur_at x i = ur_at y i) → x = y
  | [], [], _, _ => rfl
  | [], _ :: _, h, _ => absurd h (by simp)
  | _ :: _, [], h, _ => absurd h (by simp)
  | a :: x, b :: y, h, k => by
    have h0 : a = b := k 0 (by simp)
    have h1 : x = y := ur_ext x y (Nat.succ.inj h) (fun i hi => k (i + 1) (by simp only [List.length_cons]; omega))
    rw [h0, h1]
theorem ur_at_drop : ∀ (t : List Int32) (a i : Nat), ur_at (t.drop a) i = ur_at t (a + i)
  | t, 0, i => by rw [List.drop_zero, Nat.zero_add]
  | [], a + 1, i => by rw [List.drop_nil]; rfl
  | _ :: t, a + 1, i => by
    have e : a + 1 + i = (a + i) + 1 := by omega
    rw [List.drop_succ_cons, e]; exact ur_at_drop t a i
theorem ur_at_take : ∀ (t : List Int32) (n i : Nat), i < n → ur_at (t.take n) i = ur_at t i
  | _, 0, _, h => absurd h (Nat.not_lt_zero _)
  | [], n + 1, i, _ => by rw [List.take_nil]
  | _ :: _, n + 1, 0, _ => rfl
  | _ :: t, n + 1, i + 1, h => ur_at_take t n i (Nat.lt_of_succ_lt_succ h)
/-- the characters a .. b-1 -/
def ur_ex (t : List Int32) (a b : Nat) : List Int32 := (t.drop a).take (b - a)
theorem ur_ex_nil {t : List Int32} {a b : Nat} (h : b ≤ a) : ur_ex t a b = [] := by
  unfold ur_ex; rw [Nat.sub_eq_zero_of_le h, List.take_zero]
theorem ur_ex_len {t : List Int32} {a b : Nat} (h : b ≤ t.length) : (ur_ex t a b).length = b - a := by
  unfold ur_ex; rw [List.length_take, List.length_drop]; omega
theorem ur_ex_at {t : List Int32} {a b i : Nat} (h : i < b - a) : ur_at (ur_ex t a b) i = ur_at t (a + i) := by
  unfold ur_ex; rw [ur_at_take _ _ _ h, ur_at_drop]
theorem ur_ex_full (t : List Int32) : ur_ex t 0 t.length = t := by
  unfold ur_ex; rw [List.drop_zero, Nat.sub_zero, List.take_length]
theorem ur_ex_app {t : List Int32} {a b c : Nat} (h1 : a ≤ b) (h2 : b ≤ c) (h3 : c ≤ t.length) : ur_ex t a b ++ ur_ex t b c = ur_ex t a c := by
  apply ur_ext
  · rw [List.length_append, ur_ex_len (by omega), ur_ex_len h3, ur_ex_len h3]; omega
  · intro i hi
    rw [List.length_append, ur_ex_len (by omega), ur_ex_len h3] at hi
    by_cases e : i < b - a
    · rw [ur_at_l _ _ _ (by rw [ur_ex_len (by omega)]; exact e), ur_ex_at e, ur_ex_at (by omega)]
    · rw [ur_at_r' (by rw [ur_ex_len (by omega)]; omega), ur_ex_len (by omega), ur_ex_at (by omega), ur_ex_at (by omega)]
      exact congrArg _ (by omega)
theorem ur_ex_cons {t : List Int32} {a b : Nat} (h : a < b) (hb : b ≤ t.length) : ur_ex t a b = ur_at t a :: ur_ex t (a + 1) b := by
  apply ur_ext
  · rw [List.length_cons, ur_ex_len hb, ur_ex_len hb]; omega
  · intro i hi
    rw [ur_ex_len hb] at hi
    rw [ur_ex_at hi]
    cases i with
    | zero => rfl
    | succ i =>
      show _ = ur_at (ur_ex t (a + 1) b) i
      rw [ur_ex_at (by omega)]
      exact congrArg _ (by omega)
theorem ur_ex_snoc {t : List Int32} {a b : Nat} (h : a ≤ b) (hb : b < t.length) : ur_ex t a (b + 1) = ur_ex t a b ++ [ur_at t b] := by
  rw [← ur_ex_app h (Nat.le_succ b) hb, ur_ex_cons (Nat.lt_succ_self b) hb, ur_ex_nil (Nat.le_refl _)]
theorem ur_ex_mid (x y z : List Int32) : ur_ex (x ++ (y ++ z)) x.length (x.length + y.length) = y := by
  apply ur_ext
  · rw [ur_ex_len (by simp only [List.length_append]; omega)]; omega
  · intro i hi
    rw [ur_ex_len (by simp only [List.length_append]; omega)] at hi
    rw [ur_ex_at hi, ur_at_r, ur_at_l _ _ _ (by omega)]
theorem ur_ex_mem {t : List Int32} {a b : Nat} {c : Int32} (hb : b ≤ t.length) (h : c ∈ ur_ex t a b) : ∃ i, a ≤ i ∧ i < b ∧ ur_at t i = c := by
  obtain ⟨i, hi, he⟩ := ur_mem_at _ _ h
  rw [ur_ex_len hb] at hi
  rw [ur_ex_at hi] at he
  exact ⟨a + i, by omega, by omega, he⟩
/-- the places a .. of g, below N, hold the list l -/
def ur_G (N : Nat) (g : Nat → Int32) (a : Nat) (l : List Int32) : Prop := a + l.length ≤ N ∧ ∀ i, i < l.length → g (a + i) = ur_at l i
theorem ur_G_cons {N : Nat} {g : Nat → Int32} {a : Nat} {c : Int32} {l : List Int32} (h : ur_G N g a (c :: l)) : a < N ∧ g a = c ∧ ur_G N g (a + 1) l := by
  have h1 := h.1
  rw [List.length_cons] at h1
  refine ⟨by omega, h.2 0 (by simp), by omega, fun i hi => ?_⟩
  have := h.2 (i + 1) (by simp only [List.length_cons]; omega)
  rw [show a + 1 + i = a + (i + 1) by omega]; exact this
theorem ur_G_drop {N : Nat} {g : Nat → Int32} {a : Nat} {l : List Int32} (h : ur_G N g a l) {k : Nat} (hk : k ≤ l.length) : ur_G N g (a + k) (l.drop k) := by
  refine ⟨by have := h.1; rw [List.length_drop]; omega, fun i hi => ?_⟩
  rw [List.length_drop] at hi
  rw [ur_at_drop, Nat.add_assoc]; exact h.2 _ (by omega)
theorem ur_G_take {N : Nat} {g : Nat → Int32} {a : Nat} {l : List Int32} (h : ur_G N g a l) (k : Nat) : ur_G N g a (l.take k) := by
  refine ⟨by have := h.1; rw [List.length_take]; omega, fun i hi => ?_⟩
  rw [List.length_take] at hi
  rw [ur_at_take _ _ _ (by omega)]; exact h.2 _ (by omega)
theorem ur_G_ex {t : List Int32} {a b : Nat} (hab : a ≤ b) (hb : b ≤ t.length) : ur_G t.length (ur_at t) a (ur_ex t a b) := by
  refine ⟨by rw [ur_ex_len hb]; omega, fun i hi => ?_⟩
  rw [ur_ex_len hb] at hi
  rw [ur_ex_at hi]
/-- texts of regions: an update -/
def ur_s (L : Nat → Option (List Int32)) (r : Nat) (o : Option (List Int32)) : Nat → Option (List Int32) := fun j => if j = r then o else L j
theorem ur_s_e {L : Nat → Option (List Int32)} {r : Nat} {o : Option (List Int32)} : ur_s L r o r = o := if_pos rfl
theorem ur_s_n {L : Nat → Option (List Int32)} {r j : Nat} {o : Option (List Int32)} (h : j ≠ r) : ur_s L r o j = L j := if_neg h
theorem ur_s_s {L : Nat → Option (List Int32)} {r : Nat} {o p : Option (List Int32)} : ur_s (ur_s L r o) r p = ur_s L r p := by
  funext j
  by_cases h : j = r
  · subst h; rw [ur_s_e, ur_s_e]
  · rw [ur_s_n h, ur_s_n h, ur_s_n h]
theorem ur_s_id {L : Nat → Option (List Int32)} {r : Nat} {o : Option (List Int32)} (h : L r = o) : ur_s L r o = L := by
  funext j
  by_cases e : j = r
  · subst e; rw [ur_s_e, h]
  · rw [ur_s_n e]
/-- the array m, in rows of W, and the lengths l hold the texts L of eleven regions -/
def ur_M (W : Nat) (L : Nat → Option (List Int32)) (m l : Nat → Int32) : Prop :=
  ∀ r, r < 11 → (L r = none → l r = -1) ∧ ∀ t, L r = some t → l r = nI t.length ∧ t.length ≤ W ∧ ∀ i, i < t.length → m (r * W + i) = ur_at t i
theorem ur_row {W i x j r : Nat} (hi : i < W) (hx : x < W) (e : j * W + i = r * W + x) : j = r := by
  rcases Nat.lt_trichotomy j r with h | h | h
  · have := Nat.mul_le_mul_right W (show j + 1 ≤ r from h)
    rw [Nat.succ_mul] at this; omega
  · exact h
  · have := Nat.mul_le_mul_right W (show r + 1 ≤ j from h)
    rw [Nat.succ_mul] at this; omega
section
variable {W : Nat} {L : Nat → Option (List Int32)} {m l : Nat → Int32} {r : Nat} {T : List Int32} {c : Int32}
theorem ur_M_len (h : ur_M W L m l) (hr : r < 11) (hL : L r = some T) : l r = nI T.length := ((h r hr).2 T hL).1
theorem ur_M_le (h : ur_M W L m l) (hr : r < 11) (hL : L r = some T) : T.length ≤ W := ((h r hr).2 T hL).2.1
theorem ur_M_at (h : ur_M W L m l) (hr : r < 11) (hL : L r = some T) {i : Nat} (hi : i < T.length) : m (r * W + i) = ur_at T i := ((h r hr).2 T hL).2.2 i hi
theorem ur_M_push (h : ur_M W L m l) (hr : r < 11) (hL : L r = some T) (hT : T.length < W) : ur_M W (ur_s L r (some (T ++ [c]))) (upd m (r * W + T.length) c) (upd l r (nI (T.length + 1))) := by
  intro j hj
  by_cases e : j = r
  · subst e
    refine ⟨fun z => (by rw [ur_s_e] at z; cases z), fun t ht => ?_⟩
    rw [ur_s_e] at ht
    cases ht
    refine ⟨by rw [pk_us, List.length_append]; rfl, by rw [List.length_append]; exact hT, fun i hi => ?_⟩
    rw [List.length_append, List.length_singleton] at hi
    by_cases q : i = T.length
    · subst q; rw [pk_us]; exact (ur_at_r T [c] 0).symm
    · rw [pk_un (by omega), ur_at_l _ _ _ (by omega)]; exact ur_M_at h hj hL (by omega)
  · rw [ur_s_n e]
    refine ⟨fun z => by rw [pk_un e]; exact (h j hj).1 z, fun t ht => ?_⟩
    have q := (h j hj).2 t ht
    refine ⟨by rw [pk_un e]; exact q.1, q.2.1, fun i hi => ?_⟩
    rw [pk_un (fun z => e (ur_row (by omega) hT z))]; exact q.2.2 i hi
theorem ur_M_nil (h : ur_M W L m l) : ur_M W (ur_s L r (some [])) m (upd l r 0) := by
  intro j hj
  by_cases e : j = r
  · subst e
    refine ⟨fun z => (by rw [ur_s_e] at z; cases z), fun t ht => ?_⟩
    rw [ur_s_e] at ht
    cases ht
    exact ⟨pk_us, Nat.zero_le _, fun i hi => absurd hi (Nat.not_lt_zero _)⟩
  · rw [ur_s_n e, pk_un e]
    exact h j hj
theorem ur_M_none (h : ur_M W L m l) : ur_M W (ur_s L r none) m (upd l r (-1)) := by
  intro j hj
  by_cases e : j = r
  · subst e
    refine ⟨fun _ => pk_us, fun t ht => ?_⟩
    rw [ur_s_e] at ht
    cases ht
  · rw [ur_s_n e, pk_un e]
    exact h j hj
theorem ur_M_cut (h : ur_M W L m l) (hr : r < 11) (hL : L r = some T) {k : Nat} (hk : k ≤ T.length) : ur_M W (ur_s L r (some (T.take k))) m (upd l r (nI k)) := by
  intro j hj
  by_cases e : j = r
  · subst e
    refine ⟨fun z => (by rw [ur_s_e] at z; cases z), fun t ht => ?_⟩
    rw [ur_s_e] at ht
    cases ht
    have q := ur_M_le h hr hL
    refine ⟨by rw [pk_us, List.length_take]; exact congrArg nI (by omega), by rw [List.length_take]; omega, fun i hi => ?_⟩
    rw [List.length_take] at hi
    rw [ur_at_take _ _ _ (by omega)]; exact ur_M_at h hr hL (by omega)
  · rw [ur_s_n e, pk_un e]
    exact h j hj
theorem ur_M_G (h : ur_M 128 L m l) (hr : r < 11) (hL : L r = some T) {a : Nat} {x : List Int32} (hx : ur_G T.length (ur_at T) a x) : ur_G 1408 m (r * 128 + a) x := by
  have q := ur_M_le h hr hL
  have q1 := hx.1
  refine ⟨by omega, fun i hi => ?_⟩
  rw [Nat.add_assoc, ur_M_at h hr hL (by omega)]
  exact hx.2 i hi
end
/-! numbers -/
theorem ur_m8 (r : Nat) : nI r * 8 = nI (r * 8) := pk_mul r 8
theorem ur_m128 (r : Nat) : nI r * 128 = nI (r * 128) := pk_mul r 128
theorem ur_m256 (r : Nat) : nI r * 256 = nI (r * 256) := pk_mul r 256
theorem ur_p0 (a : Nat) : nI a + 0 = nI a := nI_add a 0
theorem ur_p2 (a : Nat) : nI a + 2 = nI (a + 2) := nI_add a 2
theorem ur_s1 {a : Nat} (h : 0 < a) : nI a - 1 = nI (a - 1) := pk_sub (b := 1) h
/-- a truth value as an int -/
def ur_b (b : Bool) : Int32 := if b = true then 1 else 0
theorem ur_bt : ur_b true = 1 := rfl
theorem ur_bf : ur_b false = 0 := rfl
theorem ur_b_n (b : Bool) : narrow .boolean (.int (ur_b b)) = .int (ur_b b) := by cases b <;> rfl
/-- a branch on a truth value -/
theorem ur_br {b : Bool} {A B : Prop} (f : b = false → A) (g : b = true → B) : (ur_b b = 0 → A) ∧ (¬ ur_b b = 0 → B) := by
  cases b
  · exact br_t rfl (f rfl)
  · exact br_f (by decide) (g rfl)
theorem ur_m1lt : (-1 : Int32) < 0 := by decide
theorem ur_m1le : ¬ (0 : Int32) ≤ -1 := by decide
/-- the two states -/
abbrev ur_x (bh lim cnt : Int32) (m l f t w : Nat → Int32) : SX := (128, 6, 7, 8, 9, 10, bh, lim, cnt, m, l, f, t, w)
abbrev ur_y (lim cnt : Int32) (c n ms me : Nat → Int32) : SY := (lim, cnt, c, n, ms, me)
end
section
/-! characters: the sets, mirrored, and both sides' readings of them -/
theorem ur_bi {c : Prop} [Decidable c] {A B : Prop} {α : Type} {P : α → Prop} {x y : α} (k : P (if c then x else y)) (f : P x → A) (g : P y → B) : (c → A) ∧ (¬ c → B) :=
  ⟨fun h => f (by rw [if_pos h] at k; exact k), fun h => g (by rw [if_neg h] at k; exact k)⟩
def ur_isL2 (c : Int32) : Bool := if c < 97 then false else if 122 < c then false else true
def ur_isL (c : Int32) : Bool := if c < 65 then ur_isL2 c else if c ≤ 90 then true else ur_isL2 c
def ur_isD (c : Int32) : Bool := if c < 48 then false else if 57 < c then false else true
def ur_hx3 (c : Int32) : Int32 := if c < 97 then -1 else if 102 < c then -1 else c - 97 + 10
def ur_hx2 (c : Int32) : Int32 := if c < 65 then ur_hx3 c else if 70 < c then ur_hx3 c else c - 65 + 10
def ur_hx (c : Int32) : Int32 := if c < 48 then ur_hx2 c else if 57 < c then ur_hx2 c else c - 48
def ur_un4 (c : Int32) : Bool := if c = 45 then true else if c = 46 then true else if c = 95 then true else if c = 126 then true else false
def ur_un (c : Int32) : Bool := ur_isL c || (ur_isD c || ur_un4 c)
def ur_sd2 (c : Int32) : Bool := if c = 59 then true else if c = 61 then true else false
def ur_sd (c : Int32) : Bool := if c = 33 then true else if c = 36 then true else if c < 38 then ur_sd2 c else if c ≤ 44 then true else ur_sd2 c
def ur_al2 (lv : Nat) (c : Int32) : Bool := if c = 58 then decide (1 ≤ lv) else if c = 64 then decide (2 ≤ lv) else if c = 47 then decide (2 ≤ lv) else if c = 63 then decide (3 ≤ lv) else false
def ur_al (lv : Nat) (c : Int32) : Bool := ur_un c || (ur_sd c || ur_al2 lv c)
def ur_lc (c : Int32) : Int32 := if c < 65 then c else if 90 < c then c else c + 32
def ur_uc (c : Int32) : Int32 := if c < 97 then c else if 122 < c then c else c - 32
theorem ur_bo {a b : Bool} {A B : Prop} {post : Int32 → Prop} (k : post (ur_b (a || b))) (f : post (ur_b b) → A) (g : post 1 → B) : (ur_b a = 0 → A) ∧ (¬ ur_b a = 0 → B) := by
  cases a
  · exact br_t rfl (f k)
  · exact br_f (by decide) (g k)
theorem ur_lit1 : ∀ {lv : Nat} {A B : Prop}, lv ≤ 3 → (lv < 1 → A) → (1 ≤ lv → B) → (nI lv < 1 → A) ∧ (¬ nI lv < 1 → B) := fun {lv} {_} {_} h f g => pk_lt lv 1 f g
theorem ur_lit2 : ∀ {lv : Nat} {A B : Prop}, lv ≤ 3 → (lv < 2 → A) → (2 ≤ lv → B) → (nI lv < 2 → A) ∧ (¬ nI lv < 2 → B) := fun {lv} {_} {_} h f g => pk_lt lv 2 f g
theorem ur_lit3 : ∀ {lv : Nat} {A B : Prop}, lv ≤ 3 → (lv < 3 → A) → (3 ≤ lv → B) → (nI lv < 3 → A) ∧ (¬ nI lv < 3 → B) := fun {lv} {_} {_} h f g => pk_lt lv 3 f g
section
variable {bh lim cnt : Int32} {m l fa ta wa : Nat → Int32} {post : Int32 → Prop} {c : Int32}
theorem xa_isL2 (k : post (ur_b (ur_isL2 c))) : wX_isLetter_12 post c 128 6 7 8 9 10 bh lim cnt m l fa ta wa :=
  ur_bi (P := fun b => post (ur_b b)) k (fun k => k) fun k => ur_bi (P := fun b => post (ur_b b)) k (fun k => k) (fun k => k)
theorem xa_isL (k : post (ur_b (ur_isL c))) : wpX_isLetter post (ur_x bh lim cnt m l fa ta wa) c :=
  ur_bi (P := fun b => post (ur_b b)) k (fun k => xa_isL2 k) fun k => ur_bi (P := fun b => post (ur_b b)) k (fun k => k) (fun k => xa_isL2 k)
theorem xa_isD (k : post (ur_b (ur_isD c))) : wpX_isDigit post (ur_x bh lim cnt m l fa ta wa) c :=
  ur_bi (P := fun b => post (ur_b b)) k (fun k => k) fun k => ur_bi (P := fun b => post (ur_b b)) k (fun k => k) (fun k => k)
theorem xa_hx3 (k : post (ur_hx3 c)) : wX_hexValue_37 post c 128 6 7 8 9 10 bh lim cnt m l fa ta wa :=
  ur_bi (P := fun b => post b) k (fun k => k) fun k => ur_bi (P := fun b => post b) k (fun k => k) (fun k => k)
theorem xa_hx2 (k : post (ur_hx2 c)) : wX_hexValue_17 post c 128 6 7 8 9 10 bh lim cnt m l fa ta wa :=
  ur_bi (P := fun b => post b) k (fun k => xa_hx3 k) fun k => ur_bi (P := fun b => post b) k (fun k => xa_hx3 k) (fun k => k)
theorem xa_hx (k : post (ur_hx c)) : wpX_hexValue post (ur_x bh lim cnt m l fa ta wa) c :=
  ur_bi (P := fun b => post b) k (fun k => xa_hx2 k) fun k => ur_bi (P := fun b => post b) k (fun k => xa_hx2 k) (fun k => k)
theorem xa_un (k : post (ur_b (ur_un c))) : wpX_isUnreserved post (ur_x bh lim cnt m l fa ta wa) c := by
  unfold wpX_isUnreserved
  refine xa_isL (ur_bo k (fun k => ?_) (fun k => k))
  refine xa_isD (ur_bo k (fun k => ?_) (fun k => k))
  exact ur_bi (P := fun b => post (ur_b b)) k (fun k => k) fun k => ur_bi (P := fun b => post (ur_b b)) k (fun k => k) fun k => ur_bi (P := fun b => post (ur_b b)) k (fun k => k) fun k => ur_bi (P := fun b => post (ur_b b)) k (fun k => k) (fun k => k)
theorem xa_sd2 (k : post (ur_b (ur_sd2 c))) : wX_isSubDelim_24 post c 128 6 7 8 9 10 bh lim cnt m l fa ta wa :=
  ur_bi (P := fun b => post (ur_b b)) k (fun k => k) fun k => ur_bi (P := fun b => post (ur_b b)) k (fun k => k) (fun k => k)
theorem xa_sd (k : post (ur_b (ur_sd c))) : wpX_isSubDelim post (ur_x bh lim cnt m l fa ta wa) c :=
  ur_bi (P := fun b => post (ur_b b)) k (fun k => k) fun k => ur_bi (P := fun b => post (ur_b b)) k (fun k => k) fun k => ur_bi (P := fun b => post (ur_b b)) k (fun k => xa_sd2 k) fun k => ur_bi (P := fun b => post (ur_b b)) k (fun k => k) (fun k => xa_sd2 k)
theorem ur_dt {p : Prop} [Decidable p] (k : post (ur_b (decide p))) (h : p) : post 1 := by rw [decide_eq_true h] at k; exact k
theorem ur_df {p : Prop} [Decidable p] (k : post (ur_b (decide p))) (h : ¬ p) : post 0 := by rw [decide_eq_false h] at k; exact k
theorem xa_al47 {lv : Nat} (hl : lv ≤ 3) (k : post (ur_b (decide (2 ≤ lv)))) : wX_isAllowed_47 post (nI lv) 128 6 7 8 9 10 bh lim cnt m l fa ta wa :=
  ur_lit2 hl (fun h => ur_df k (by omega)) (fun h => ur_dt k h)
theorem xa_al {lv : Nat} (hl : lv ≤ 3) (k : post (ur_b (ur_al lv c))) : wpX_isAllowed post (ur_x bh lim cnt m l fa ta wa) c (nI lv) := by
  unfold wpX_isAllowed
  refine xa_un (ur_bo k (fun k => ?_) (fun k => k))
  refine xa_sd (ur_bo k (fun k => ?_) (fun k => k))
  refine ur_bi (P := fun b => post (ur_b b)) k (fun k => ur_lit1 hl (fun h => ur_df k (by omega)) (fun h => ur_dt k h)) fun k => ?_
  refine ur_bi (P := fun b => post (ur_b b)) k (fun k => xa_al47 hl k) fun k => ?_
  refine ur_bi (P := fun b => post (ur_b b)) k (fun k => xa_al47 hl k) fun k => ?_
  exact ur_bi (P := fun b => post (ur_b b)) k (fun k => ur_lit3 hl (fun h => ur_df k (by omega)) (fun h => ur_dt k h)) (fun k => k)
theorem xa_lc (k : post (ur_lc c)) : wpX_lowerCase post (ur_x bh lim cnt m l fa ta wa) c :=
  ur_bi (P := fun b => post b) k (fun k => k) fun k => ur_bi (P := fun b => post b) k (fun k => k) (fun k => k)
theorem xa_uc (k : post (ur_uc c)) : wpX_upperCase post (ur_x bh lim cnt m l fa ta wa) c :=
  ur_bi (P := fun b => post b) k (fun k => k) fun k => ur_bi (P := fun b => post b) k (fun k => k) (fun k => k)
end
section
variable {lim cnt : Int32} {yc yn ys ye : Nat → Int32} {post : Int32 → Prop} {c : Int32}
theorem ya_isL2 (k : post (ur_b (ur_isL2 c))) : wY_letter_12 post c lim cnt yc yn ys ye :=
  ur_bi (P := fun b => post (ur_b b)) k (fun k => k) fun k => ur_bi (P := fun b => post (ur_b b)) k (fun k => k) (fun k => k)
theorem ya_isL (k : post (ur_b (ur_isL c))) : wpY_letter post (ur_y lim cnt yc yn ys ye) c :=
  ur_bi (P := fun b => post (ur_b b)) k (fun k => ya_isL2 k) fun k => ur_bi (P := fun b => post (ur_b b)) k (fun k => k) (fun k => ya_isL2 k)
theorem ya_isD (k : post (ur_b (ur_isD c))) : wpY_digit post (ur_y lim cnt yc yn ys ye) c :=
  ur_bi (P := fun b => post (ur_b b)) k (fun k => k) fun k => ur_bi (P := fun b => post (ur_b b)) k (fun k => k) (fun k => k)
theorem ur_h87 (c : Int32) : c - 97 + 10 = c - 87 := by
  rw [Int32.sub_eq_add_neg, Int32.add_assoc, Int32.sub_eq_add_neg]; exact congrArg (c + ·) (by decide)
theorem ur_h55 (c : Int32) : c - 65 + 10 = c - 55 := by
  rw [Int32.sub_eq_add_neg, Int32.add_assoc, Int32.sub_eq_add_neg]; exact congrArg (c + ·) (by decide)
theorem ya_hx3 (k : post (ur_hx3 c)) : wY_hex_34 post c lim cnt yc yn ys ye :=
  ur_bi (P := fun b => post b) k (fun k => k) fun k => ur_bi (P := fun b => post b) k (fun k => k) (fun k => by rw [ur_h87] at k; exact k)
theorem ya_hx (k : post (ur_hx c)) : wpY_hex post (ur_y lim cnt yc yn ys ye) c := by
  unfold wpY_hex
  refine ya_isD ?_
  by_cases h1 : c < 48
  · have e : ur_isD c = false := if_pos h1
    rw [e]
    have e2 : ur_hx c = ur_hx2 c := if_pos h1
    rw [e2] at k
    exact br_t rfl (ur_bi (P := fun b => post b) k (fun k => ya_hx3 k) fun k => ur_bi (P := fun b => post b) k (fun k => ya_hx3 k) (fun k => by rw [ur_h55] at k; exact k))
  · by_cases h2 : 57 < c
    · have e : ur_isD c = false := (if_neg h1).trans (if_pos h2)
      rw [e]
      have e2 : ur_hx c = ur_hx2 c := (if_neg h1).trans (if_pos h2)
      rw [e2] at k
      exact br_t rfl (ur_bi (P := fun b => post b) k (fun k => ya_hx3 k) fun k => ur_bi (P := fun b => post b) k (fun k => ya_hx3 k) (fun k => by rw [ur_h55] at k; exact k))
    · have e : ur_isD c = true := (if_neg h1).trans (if_neg h2)
      rw [e]
      have e2 : ur_hx c = c - 48 := (if_neg h1).trans (if_neg h2)
      rw [e2] at k
      exact br_f (by decide) k
theorem ya_un (k : post (ur_b (ur_un c))) : wpY_unreserved post (ur_y lim cnt yc yn ys ye) c := by
  unfold wpY_unreserved
  refine ya_isL (ur_bo k (fun k => ?_) (fun k => k))
  refine ya_isD (ur_bo k (fun k => ?_) (fun k => k))
  exact ur_bi (P := fun b => post (ur_b b)) k (fun k => k) fun k => ur_bi (P := fun b => post (ur_b b)) k (fun k => k) fun k => ur_bi (P := fun b => post (ur_b b)) k (fun k => k) fun k => ur_bi (P := fun b => post (ur_b b)) k (fun k => k) (fun k => k)
end
end
section
/-! reading and writing texts, both sides -/
def ur_fd (g : Nat → Int32) (c : Int32) (b : Nat) : Nat → Nat
  | 0 => b
  | d + 1 => if g (b - (d + 1)) = c then b - (d + 1) else ur_fd g c b d
/-- the first place of c in a .. b-1, or b -/
def ur_find (T : List Int32) (c : Int32) (a b : Nat) : Nat := ur_fd (ur_at T) c b (b - a)
section
variable {T : List Int32} {c : Int32} {a b : Nat}
theorem ur_find_ge (h : b ≤ a) : ur_find T c a b = b := by unfold ur_find; rw [Nat.sub_eq_zero_of_le h]; rfl
theorem ur_find_eq (h : a < b) (e : ur_at T a = c) : ur_find T c a b = a := by
  unfold ur_find
  obtain ⟨d, hd⟩ : ∃ d, b - a = d + 1 := ⟨b - a - 1, by omega⟩
  rw [hd, ur_fd, show b - (d + 1) = a by omega, if_pos e]
theorem ur_find_ne (h : a < b) (e : ¬ ur_at T a = c) : ur_find T c a b = ur_find T c (a + 1) b := by
  unfold ur_find
  obtain ⟨d, hd⟩ : ∃ d, b - a = d + 1 := ⟨b - a - 1, by omega⟩
  rw [hd, ur_fd, show b - (d + 1) = a by omega, if_neg e, show b - (a + 1) = d by omega]
theorem ur_find_all : ∀ (d a : Nat), b - a = d → a ≤ b → a ≤ ur_find T c a b ∧ ur_find T c a b ≤ b ∧ (∀ i, a ≤ i → i < ur_find T c a b → ¬ ur_at T i = c) ∧ (ur_find T c a b < b → ur_at T (ur_find T c a b) = c)
  | 0, a, h, h2 => by
    rw [ur_find_ge (by omega)]
    exact ⟨h2, Nat.le_refl _, fun i h3 h4 => absurd h4 (by omega), fun z => absurd z (Nat.lt_irrefl _)⟩
  | d + 1, a, h, h2 => by
    by_cases e : ur_at T a = c
    · rw [ur_find_eq (by omega) e]
      exact ⟨Nat.le_refl _, h2, fun i h3 h4 => absurd h4 (by omega), fun _ => e⟩
    · rw [ur_find_ne (by omega) e]
      have q := ur_find_all d (a + 1) (by omega) (by omega)
      refine ⟨by omega, q.2.1, fun i h3 h4 => ?_, q.2.2.2⟩
      by_cases z : i = a
      · subst z; exact e
      · exact q.2.2.1 i (by omega) h4
theorem ur_find_lo (h : a ≤ b) : a ≤ ur_find T c a b := (ur_find_all _ a rfl h).1
theorem ur_find_hi (h : a ≤ b) : ur_find T c a b ≤ b := (ur_find_all _ a rfl h).2.1
theorem ur_find_no (h : a ≤ b) {i : Nat} (h1 : a ≤ i) (h2 : i < ur_find T c a b) : ¬ ur_at T i = c := (ur_find_all _ a rfl h).2.2.1 i h1 h2
theorem ur_find_is (h : a ≤ b) (h1 : ur_find T c a b < b) : ur_at T (ur_find T c a b) = c := (ur_find_all _ a rfl h).2.2.2 h1
theorem ur_find_uq {p : Nat} (h1 : a ≤ p) (h2 : p ≤ b) (h3 : ∀ i, a ≤ i → i < p → ¬ ur_at T i = c) (h4 : p < b → ur_at T p = c) : ur_find T c a b = p := by
  have h := ur_find_all (T := T) (c := c) (b := b) _ a rfl (Nat.le_trans h1 h2)
  rcases Nat.lt_trichotomy (ur_find T c a b) p with z | z | z
  · exact absurd (h.2.2.2 (by omega)) (h3 _ h.1 z)
  · exact z
  · exact absurd (h4 (by omega)) (h.2.2.1 p h1 z)
end
section
variable {bh lim cnt : Int32} {m l fa ta wa : Nat → Int32} {L : Nat → Option (List Int32)} {T : List Int32}
theorem xa_add {post : SX → Prop} (r : Nat) {c : Int32} (h : ur_M 128 L m l) (hr : r < 11) (hL : L r = some T) (hT : T.length < 128)
    (k : ∀ m' l', ur_M 128 (ur_s L r (some (T ++ [c]))) m' l' → post (ur_x bh lim cnt m' l' fa ta wa)) :
    wpX_addChar post (ur_x bh lim cnt m l fa ta wa) (nI r) c := by
  have e1 : (nI r).toNatClampNeg = r := nI_clamp (by omega)
  have e2 : l r = nI T.length := ur_M_len h hr hL
  have e3 : nI r * 128 + nI T.length = nI (r * 128 + T.length) := by rw [ur_m128, nI_add]
  unfold wpX_addChar
  dsimp only
  rw [e1]
  refine ⟨vp_in_nI hr (by decide), nm_r e2 (br_f (nI_pos (by omega)) (br_f (nI_ge (b := 128) hT (by decide)) ?_))⟩
  rw [e3, nI_clamp (show r * 128 + T.length < 2 ^ 31 by omega), nI_1]
  exact ⟨vp_in_nI (by omega) (by decide), nm_e ⟨vp_in_nI hr (by decide), nm_e (k _ _ (ur_M_push h hr hL hT))⟩⟩
theorem xl_addRange {post : SX → Prop} (r s b : Nat) {S : List Int32} (hr : r < 11) (hs : s < 11) (hrs : r ≠ s) (hb : b ≤ S.length) (hS8 : S.length ≤ 128) :
    ∀ (d a : Nat) (T : List Int32) (m l : Nat → Int32) (L : Nat → Option (List Int32)), b - a = d → a ≤ 2000 → ur_M 128 L m l → L r = some T → L s = some S → T.length + d ≤ 128 →
    (∀ m' l', ur_M 128 (ur_s L r (some (T ++ ur_ex S a b))) m' l' → post (ur_x bh lim cnt m' l' fa ta wa)) →
    wX_addRange_3 post (nI r) (nI (s * 128 + b)) (d + 1) (nI (s * 128 + a)) 128 6 7 8 9 10 bh lim cnt m l fa ta wa := by
  intro d
  induction d with
  | zero =>
    intro a T m l L hd ha h hL hS hT k
    refine br_t (nI_le (by omega) (by omega)) (k m l ?_)
    rw [ur_ex_nil (by omega), List.append_nil, ur_s_id hL]
    exact h
  | succ d ih =>
    intro a T m l L hd ha h hL hS hT k
    refine br_f (nI_ge (by omega) (by omega)) ⟨vp_in_nI (by omega) (by decide), ?_⟩
    rw [nI_clamp (show s * 128 + a < 2 ^ 31 by omega), ur_M_at h hs hS (by omega)]
    refine xa_add r h hr hL (by omega) (fun m' l' h' => nm_r (nI_1 _) ?_)
    refine ih (a + 1) _ m' l' _ (by omega) (by omega) h' ur_s_e ((ur_s_n (fun z => hrs z.symm)).trans hS) (by rw [List.length_append, List.length_singleton]; omega) ?_
    rw [ur_s_s, List.append_assoc, List.singleton_append, ← ur_ex_cons (by omega) hb]
    exact k
theorem xa_addRange {post : SX → Prop} (r s a b : Nat) {S : List Int32} (h : ur_M 128 L m l) (hr : r < 11) (hs : s < 11) (hrs : r ≠ s) (hL : L r = some T) (hS : L s = some S) (hb : b ≤ S.length) (ha : a ≤ 2000) (hT : T.length + (b - a) ≤ 128)
    (k : ∀ m' l', ur_M 128 (ur_s L r (some (T ++ ur_ex S a b))) m' l' → post (ur_x bh lim cnt m' l' fa ta wa)) :
    wpX_addRange post (ur_x bh lim cnt m l fa ta wa) (nI r) (nI (s * 128 + a)) (nI (s * 128 + b)) :=
  ⟨_, xl_addRange r s b hr hs hrs hb (ur_M_le h hs hS) (b - a) a T m l L rfl ha h hL hS hT k⟩
theorem xa_addRange0 {post : SX → Prop} {u : SX} {p x y : Int32} (hxy : y ≤ x) (k : post u) : wpX_addRange post u p x y :=
  ⟨1, br_t hxy k⟩
theorem xa_copy {post : SX → Prop} (s d : Nat) {S : List Int32} (h : ur_M 128 L m l) (hs : s < 11) (hd : d < 11) (hsd : d ≠ s) (hS : L s = some S)
    (k : ∀ m' l', ur_M 128 (ur_s L d (some S)) m' l' → post (ur_x bh lim cnt m' l' fa ta wa)) :
    wpX_copyText post (ur_x bh lim cnt m l fa ta wa) (nI s) (nI d) := by
  have hne : ¬ nI s = nI d := fun z => hsd ((nI_eq (by omega) (by omega)).mp z).symm
  have e1 : (nI d).toNatClampNeg = d := nI_clamp (by omega)
  have e2 : (nI s).toNatClampNeg = s := nI_clamp (by omega)
  have e3 : nI (s * 128) + upd l d 0 s = nI (s * 128 + S.length) := by rw [pk_un (fun z => hsd z.symm), ur_M_len h hs hS, nI_add]
  have q := ur_M_le h hs hS
  unfold wpX_copyText
  dsimp only
  rw [e1, e2]
  refine br_f hne (nm_r (ur_m128 s) ⟨vp_in_nI hd (by decide), nm_e ⟨vp_in_nI hs (by decide), ?_⟩⟩)
  rw [e3]
  refine xa_addRange (T := []) d s 0 S.length (ur_M_nil h) hd hs hsd ur_s_e ((ur_s_n (fun z => hsd z.symm)).trans hS) (Nat.le_refl _) (by omega) (by simpa using q) (fun m' l' h' => ?_)
  rw [ur_s_s, ur_ex_full, List.nil_append] at h'
  exact k m' l' h'
theorem xl_find {post : Int32 → Prop} {c : Int32} (r b : Nat) (h : ur_M 128 L m l) (hr : r < 11) (hL : L r = some T) (hb : b ≤ T.length) :
    ∀ (d a : Nat), b - a = d → a ≤ 2000 → post (nI (r * 128 + ur_find T c a b)) → wX_find_3 post (nI (r * 128 + b)) c 128 6 7 8 9 10 bh lim cnt m l fa ta wa (d + 1) (nI (r * 128 + a)) := by
  have q := ur_M_le h hr hL
  intro d
  induction d with
  | zero =>
    intro a hd ha k
    rw [ur_find_ge (by omega)] at k
    exact br_t (nI_le (by omega) (by omega)) k
  | succ d ih =>
    intro a hd ha k
    refine br_f (nI_ge (by omega) (by omega)) ⟨vp_in_nI (by omega) (by decide), ?_⟩
    rw [nI_clamp (show r * 128 + a < 2 ^ 31 by omega), ur_M_at h hr hL (by omega)]
    by_cases e : ur_at T a = c
    · rw [ur_find_eq (by omega) e] at k
      exact br_t e k
    · rw [ur_find_ne (by omega) e] at k
      exact br_f e (nm_r (nI_1 _) (ih (a + 1) (by omega) (by omega) k))
theorem xa_find {post : Int32 → Prop} {c : Int32} (r a b : Nat) (h : ur_M 128 L m l) (hr : r < 11) (hL : L r = some T) (hb : b ≤ T.length) (ha : a ≤ 2000)
    (k : post (nI (r * 128 + ur_find T c a b))) : wpX_find post (ur_x bh lim cnt m l fa ta wa) (nI (r * 128 + a)) (nI (r * 128 + b)) c :=
  ⟨_, xl_find r b h hr hL hb (b - a) a rfl ha k⟩
end
section
variable {lim cnt : Int32} {yc yn ys ye : Nat → Int32} {L : Nat → Option (List Int32)} {T : List Int32}
theorem ya_at {post : Int32 → Prop} (r i : Nat) (h : ur_M 256 L yc yn) (hr : r < 11) (hL : L r = some T) (hi : i < 2 ^ 31)
    (k : post (ur_at T i)) : wpY_at post (ur_y lim cnt yc yn ys ye) (nI r) (nI i) := by
  have q := ur_M_le h hr hL
  have e1 : (nI r).toNatClampNeg = r := nI_clamp (by omega)
  unfold wpY_at
  dsimp only
  rw [e1, ur_M_len h hr hL]
  refine br_f (nI_pos hi) ⟨vp_in_nI hr (by decide), ?_⟩
  refine pk_lt i T.length (fun hl => ?_) (fun hl => ?_) rfl rfl hi (by omega)
  · rw [ur_m256, nI_add, nI_clamp (show r * 256 + i < 2 ^ 31 by omega), ur_M_at h hr hL hl]
    exact ⟨vp_in_nI (by omega) (by decide), k⟩
  · rw [ur_at_big _ _ hl] at k; exact k
theorem ya_add {post : SY → Prop} (r : Nat) {c : Int32} (h : ur_M 256 L yc yn) (hr : r < 11) (hL : L r = some T) (hT : T.length < 256)
    (k : ∀ c' n', ur_M 256 (ur_s L r (some (T ++ [c]))) c' n' → post (ur_y lim cnt c' n' ys ye)) :
    wpY_add post (ur_y lim cnt yc yn ys ye) (nI r) c := by
  have e1 : (nI r).toNatClampNeg = r := nI_clamp (by omega)
  have hv : vp_in (nI r) 11 := vp_in_nI hr (by decide)
  unfold wpY_add
  dsimp only
  rw [e1, ur_M_len h hr hL, ur_m256, nI_add, nI_clamp (show r * 256 + T.length < 2 ^ 31 by omega), nI_1]
  exact ⟨hv, br_f (nI_pos (by omega)) ⟨hv, br_f (nI_ge (b := 256) hT (by decide)) ⟨hv, vp_in_nI (by omega) (by decide), nm_e ⟨hv, hv, nm_e (k _ _ (ur_M_push h hr hL hT))⟩⟩⟩⟩
theorem yl_append {post : SY → Prop} (r s b : Nat) {S : List Int32} (hr : r < 11) (hs : s < 11) (hrs : r ≠ s) (hb : b ≤ S.length) (hS8 : S.length ≤ 256) :
    ∀ (d a : Nat) (T : List Int32) (yc yn : Nat → Int32) (L : Nat → Option (List Int32)), b - a = d → a ≤ 2000 → ur_M 256 L yc yn → L r = some T → L s = some S → T.length + d ≤ 256 →
    (∀ c' n', ur_M 256 (ur_s L r (some (T ++ ur_ex S a b))) c' n' → post (ur_y lim cnt c' n' ys ye)) →
    wY_append_3 post (nI r) (nI s) (nI b) (d + 1) (nI a) lim cnt yc yn ys ye := by
  intro d
  induction d with
  | zero =>
    intro a T yc yn L hd ha h hL hS hT k
    refine br_t (nI_le (by omega) (by omega)) (k yc yn ?_)
    rw [ur_ex_nil (by omega), List.append_nil, ur_s_id hL]
    exact h
  | succ d ih =>
    intro a T yc yn L hd ha h hL hS hT k
    refine br_f (nI_ge (by omega) (by omega)) ?_
    refine ya_at s a h hs hS (by omega) ?_
    refine ya_add r h hr hL (by omega) (fun m' l' h' => nm_r (nI_1 _) ?_)
    refine ih (a + 1) _ m' l' _ (by omega) (by omega) h' ur_s_e ((ur_s_n (fun z => hrs z.symm)).trans hS) (by rw [List.length_append, List.length_singleton]; omega) ?_
    rw [ur_s_s, List.append_assoc, List.singleton_append, ← ur_ex_cons (by omega) hb]
    exact k
theorem ya_append {post : SY → Prop} (r s a b : Nat) {S : List Int32} (h : ur_M 256 L yc yn) (hr : r < 11) (hs : s < 11) (hrs : r ≠ s) (hL : L r = some T) (hS : L s = some S) (hb : b ≤ S.length) (ha : a ≤ 2000) (hT : T.length + (b - a) ≤ 256)
    (k : ∀ c' n', ur_M 256 (ur_s L r (some (T ++ ur_ex S a b))) c' n' → post (ur_y lim cnt c' n' ys ye)) :
    wpY_append post (ur_y lim cnt yc yn ys ye) (nI r) (nI s) (nI a) (nI b) :=
  ⟨_, yl_append r s b hr hs hrs hb (ur_M_le h hs hS) (b - a) a T yc yn L rfl ha h hL hS hT k⟩
theorem ya_append0 {post : SY → Prop} {u : SY} {p q x y : Int32} (hxy : y ≤ x) (k : post u) : wpY_append post u p q x y :=
  ⟨1, br_t hxy k⟩
theorem ya_copy {post : SY → Prop} (s d : Nat) {S : List Int32} (h : ur_M 256 L yc yn) (hs : s < 11) (hd : d < 11) (hsd : d ≠ s) (hS : L s = some S)
    (k : ∀ c' n', ur_M 256 (ur_s L d (some S)) c' n' → post (ur_y lim cnt c' n' ys ye)) :
    wpY_copy post (ur_y lim cnt yc yn ys ye) (nI s) (nI d) := by
  have e1 : (nI d).toNatClampNeg = d := nI_clamp (by omega)
  have e2 : (nI s).toNatClampNeg = s := nI_clamp (by omega)
  have e3 : upd yn d 0 s = nI S.length := by rw [pk_un (fun z => hsd z.symm), ur_M_len h hs hS]
  have q := ur_M_le h hs hS
  unfold wpY_copy
  dsimp only
  rw [e1, e2]
  refine ⟨vp_in_nI hd (by decide), nm_e ⟨vp_in_nI hs (by decide), ?_⟩⟩
  rw [e3]
  refine ya_append (T := []) d s 0 S.length (ur_M_nil h) hd hs hsd ur_s_e ((ur_s_n (fun z => hsd z.symm)).trans hS) (Nat.le_refl _) (by omega) (by simpa using q) (fun m' l' h' => ?_)
  rw [ur_s_s, ur_ex_full, List.nil_append] at h'
  exact k m' l' h'
theorem yl_find {post : Int32 → Prop} {c : Int32} (r b : Nat) (h : ur_M 256 L yc yn) (hr : r < 11) (hL : L r = some T) (hb : b ≤ 2000) :
    ∀ (d a : Nat), b - a = d → a ≤ 2000 → post (nI (ur_find T c a b)) → wY_find_3 post (nI r) c (nI b) lim cnt yc yn ys ye (d + 1) (nI a) := by
  intro d
  induction d with
  | zero =>
    intro a hd ha k
    rw [ur_find_ge (by omega)] at k
    exact br_t (nI_le (by omega) (by omega)) k
  | succ d ih =>
    intro a hd ha k
    refine br_f (nI_ge (by omega) (by omega)) (ya_at r a h hr hL (by omega) ?_)
    by_cases e : ur_at T a = c
    · rw [ur_find_eq (by omega) e] at k
      exact br_t e k
    · rw [ur_find_ne (by omega) e] at k
      exact br_f e (nm_r (nI_1 _) (ih (a + 1) (by omega) (by omega) k))
theorem ya_find {post : Int32 → Prop} {c : Int32} (r a b : Nat) (h : ur_M 256 L yc yn) (hr : r < 11) (hL : L r = some T) (hb : b ≤ 2000) (ha : a ≤ 2000)
    (k : post (nI (ur_find T c a b))) : wpY_find post (ur_y lim cnt yc yn ys ye) (nI r) c (nI a) (nI b) :=
  ⟨_, yl_find r b h hr hL hb (b - a) a rfl ha k⟩
end
end
section
/-! the borders of the components -/
/-- one behind the colon that ends the scheme, or 0 -/
def ur_sg : Nat → List Int32 → Nat
  | _, [] => 0
  | i, c :: l => if c = 58 then i + 1 else if c = 47 then 0 else if c = 63 then 0 else if c = 35 then 0 else ur_sg (i + 1) l
theorem ur_sg_le : ∀ (l : List Int32) (i : Nat), ur_sg i l ≤ i + l.length
  | [], i => Nat.zero_le _
  | c :: l, i => by
    unfold ur_sg
    have := ur_sg_le l (i + 1)
    rw [List.length_cons]
    split
    · omega
    · split
      · omega
      · split
        · omega
        · split <;> omega
def ur_sb (T : List Int32) : Nat := ur_sg 0 T
def ur_f (T : List Int32) : Nat := ur_find T 35 (ur_sb T) T.length
def ur_q (T : List Int32) : Nat := ur_find T 63 (ur_sb T) (ur_f T)
def ur_au (T : List Int32) : Bool := decide (ur_at T (ur_sb T) = 47) && decide (ur_at T (ur_sb T + 1) = 47)
def ur_e (T : List Int32) : Nat := if ur_au T = true then ur_find T 47 (ur_sb T + 2) (ur_q T) else ur_sb T
def ur_u (T : List Int32) : Nat := ur_find T 64 (ur_sb T + 2) (ur_e T)
def ur_h (T : List Int32) : Nat := if ur_u T < ur_e T then ur_u T + 1 else ur_sb T + 2
def ur_p' (T : List Int32) (h e : Nat) : Nat := if ur_at T h = 91 then (if ur_find T 93 h e < e then ur_find T 93 h e + 1 else e) else ur_find T 58 h e
def ur_p (T : List Int32) : Nat := ur_p' T (ur_h T) (ur_e T)
def ur_br' (T : List Int32) (h e : Nat) : Bool := decide (ur_at T h = 91) && (decide (e ≤ ur_find T 93 h e) || (decide (ur_p' T h e < e) && !decide (ur_at T (ur_p' T h e) = 58)))
/-- a host with brackets in disorder -/
def ur_bro (T : List Int32) : Bool := ur_au T && ur_br' T (ur_h T) (ur_e T)
def ur_hp (T : List Int32) : Bool := decide (ur_p T < ur_e T) && decide (ur_at T (ur_p T) = 58)
/-- the borders of a component, by its kind -/
def ur_B (T : List Int32) (k : Nat) : Option (Nat × Nat) :=
  if k = 0 then (if ur_sb T = 0 then none else some (0, ur_sb T - 1))
  else if k = 4 then some (ur_e T, ur_q T)
  else if k = 5 then (if ur_q T = ur_f T then none else some (ur_q T + 1, ur_f T))
  else if k = 6 then (if ur_f T = T.length then none else some (ur_f T + 1, T.length))
  else if ur_au T = false then none
  else if k = 7 then some (ur_sb T + 2, ur_e T)
  else if k = 1 then (if ur_u T = ur_e T then none else some (ur_sb T + 2, ur_u T))
  else if k = 2 then some (ur_h T, ur_p T)
  else (if ur_hp T = true then some (ur_p T + 1, ur_e T) else none)
theorem ur_B0 (T : List Int32) : ur_B T 0 = if ur_sb T = 0 then none else some (0, ur_sb T - 1) := rfl
theorem ur_B4 (T : List Int32) : ur_B T 4 = some (ur_e T, ur_q T) := rfl
theorem ur_B5 (T : List Int32) : ur_B T 5 = if ur_q T = ur_f T then none else some (ur_q T + 1, ur_f T) := rfl
theorem ur_B6 (T : List Int32) : ur_B T 6 = if ur_f T = T.length then none else some (ur_f T + 1, T.length) := rfl
theorem ur_B7 (T : List Int32) : ur_B T 7 = if ur_au T = false then none else some (ur_sb T + 2, ur_e T) := rfl
theorem ur_B1 (T : List Int32) : ur_B T 1 = if ur_au T = false then none else if ur_u T = ur_e T then none else some (ur_sb T + 2, ur_u T) := rfl
theorem ur_B2 (T : List Int32) : ur_B T 2 = if ur_au T = false then none else some (ur_h T, ur_p T) := rfl
theorem ur_B3 (T : List Int32) : ur_B T 3 = if ur_au T = false then none else if ur_hp T = true then some (ur_p T + 1, ur_e T) else none := rfl
section
variable {T : List Int32}
theorem ur_sb_le (T : List Int32) : ur_sb T ≤ T.length := by have := ur_sg_le T 0; unfold ur_sb; omega
theorem ur_f_lo (T : List Int32) : ur_sb T ≤ ur_f T := ur_find_lo (ur_sb_le T)
theorem ur_f_hi (T : List Int32) : ur_f T ≤ T.length := ur_find_hi (ur_sb_le T)
theorem ur_q_lo (T : List Int32) : ur_sb T ≤ ur_q T := ur_find_lo (ur_f_lo T)
theorem ur_q_hi (T : List Int32) : ur_q T ≤ ur_f T := ur_find_hi (ur_f_lo T)
theorem ur_lt_of {i : Nat} {c : Int32} (h : ur_at T i = c) (hc : c ≠ 0) : i < T.length := by
  rcases Nat.lt_or_ge i T.length with z | z
  · exact z
  · rw [ur_at_big _ _ z] at h; exact absurd h.symm hc
theorem ur_au_t (h : ur_au T = true) : ur_at T (ur_sb T) = 47 ∧ ur_at T (ur_sb T + 1) = 47 := by
  unfold ur_au at h
  rw [Bool.and_eq_true, decide_eq_true_eq, decide_eq_true_eq] at h
  exact h
theorem ur_au_q (h : ur_au T = true) : ur_sb T + 2 ≤ ur_q T := by
  obtain ⟨h1, h2⟩ := ur_au_t h
  have l2 := ur_lt_of h2 (by decide)
  have f1 := ur_f_lo T
  have f2 : ur_sb T + 2 ≤ ur_f T := by
    rcases Nat.lt_or_ge (ur_f T) (ur_sb T + 2) with z | z
    · have hf : ur_at T (ur_f T) = 35 := ur_find_is (ur_sb_le T) (by show ur_f T < _; omega)
      have : ur_f T = ur_sb T ∨ ur_f T = ur_sb T + 1 := by omega
      rcases this with e | e
      · rw [e, h1] at hf; exact absurd hf (by decide)
      · rw [e, h2] at hf; exact absurd hf (by decide)
    · exact z
  have q1 := ur_q_lo T
  rcases Nat.lt_or_ge (ur_q T) (ur_sb T + 2) with z | z
  · have hf : ur_at T (ur_q T) = 63 := ur_find_is (ur_f_lo T) (by show ur_q T < _; omega)
    have : ur_q T = ur_sb T ∨ ur_q T = ur_sb T + 1 := by omega
    rcases this with e | e
    · rw [e, h1] at hf; exact absurd hf (by decide)
    · rw [e, h2] at hf; exact absurd hf (by decide)
  · exact z
theorem ur_e_t (h : ur_au T = true) : ur_e T = ur_find T 47 (ur_sb T + 2) (ur_q T) := if_pos h
theorem ur_e_f (h : ur_au T = false) : ur_e T = ur_sb T := if_neg (by rw [h]; decide)
theorem ur_e_lo2 (h : ur_au T = true) : ur_sb T + 2 ≤ ur_e T := by rw [ur_e_t h]; exact ur_find_lo (ur_au_q h)
theorem ur_e_hi (T : List Int32) : ur_e T ≤ ur_q T := by
  cases h : ur_au T
  · rw [ur_e_f h]; exact ur_q_lo T
  · rw [ur_e_t h]; exact ur_find_hi (ur_au_q h)
theorem ur_e_lo (T : List Int32) : ur_sb T ≤ ur_e T := by
  cases h : ur_au T
  · rw [ur_e_f h]; exact Nat.le_refl _
  · have := ur_e_lo2 h; omega
theorem ur_e_le (T : List Int32) : ur_e T ≤ T.length := Nat.le_trans (ur_e_hi T) (Nat.le_trans (ur_q_hi T) (ur_f_hi T))
theorem ur_q_le (T : List Int32) : ur_q T ≤ T.length := Nat.le_trans (ur_q_hi T) (ur_f_hi T)
theorem ur_u_lo (h : ur_au T = true) : ur_sb T + 2 ≤ ur_u T := ur_find_lo (ur_e_lo2 h)
theorem ur_u_hi (h : ur_au T = true) : ur_u T ≤ ur_e T := ur_find_hi (ur_e_lo2 h)
theorem ur_h_lo (h : ur_au T = true) : ur_sb T + 2 ≤ ur_h T := by
  have := ur_u_lo h
  unfold ur_h; split <;> omega
theorem ur_h_hi (h : ur_au T = true) : ur_h T ≤ ur_e T := by
  have := ur_e_lo2 h
  unfold ur_h; split <;> omega
/-- what stands at the end of an authority is no bracket -/
theorem ur_e_at (h : ur_au T = true) : ¬ ur_at T (ur_e T) = 91 := by
  intro z
  have l := ur_lt_of z (by decide)
  have e1 := ur_e_hi T
  have e2 := ur_q_hi T
  have e3 := ur_f_hi T
  rcases Nat.lt_or_ge (ur_e T) (ur_q T) with a | a
  · have : ur_at T (ur_e T) = 47 := by rw [ur_e_t h] at a ⊢; exact ur_find_is (ur_au_q h) a
    rw [z] at this; exact absurd this (by decide)
  · have e4 : ur_e T = ur_q T := by omega
    rcases Nat.lt_or_ge (ur_q T) (ur_f T) with b | b
    · have : ur_at T (ur_q T) = 63 := ur_find_is (ur_f_lo T) b
      rw [← e4, z] at this; exact absurd this (by decide)
    · have e5 : ur_q T = ur_f T := by omega
      have : ur_at T (ur_f T) = 35 := ur_find_is (ur_sb_le T) (by show ur_f T < _; omega)
      rw [← e5, ← e4, z] at this; exact absurd this (by decide)
theorem ur_bk_lt (h : ur_au T = true) (z : ur_at T (ur_h T) = 91) : ur_h T < ur_e T := by
  rcases Nat.lt_or_ge (ur_h T) (ur_e T) with a | a
  · exact a
  · have e : ur_h T = ur_e T := Nat.le_antisymm (ur_h_hi h) a
    rw [e] at z; exact absurd z (ur_e_at h)
theorem ur_p'_b {h e : Nat} (he : h ≤ e) : h ≤ ur_p' T h e ∧ ur_p' T h e ≤ e := by
  have a := ur_find_lo (T := T) (c := 93) he
  have b := ur_find_hi (T := T) (c := 93) he
  have c := ur_find_lo (T := T) (c := 58) he
  have d := ur_find_hi (T := T) (c := 58) he
  unfold ur_p'
  split
  · split <;> omega
  · omega
theorem ur_p_lo (h : ur_au T = true) : ur_h T ≤ ur_p T := (ur_p'_b (ur_h_hi h)).1
theorem ur_p_hi (h : ur_au T = true) : ur_p T ≤ ur_e T := (ur_p'_b (ur_h_hi h)).2
theorem ur_B_b {k a b : Nat} (h : ur_B T k = some (a, b)) : a ≤ b ∧ b ≤ T.length := by
  have e1 := ur_e_hi T
  have e2 := ur_q_hi T
  have e3 := ur_f_hi T
  have e4 := ur_sb_le T
  have e5 := ur_e_lo T
  unfold ur_B at h
  split at h
  · split at h
    · cases h
    · cases h; omega
  split at h
  · cases h; omega
  split at h
  · split at h
    · cases h
    · cases h; omega
  split at h
  · split at h
    · cases h
    · cases h; omega
  split at h
  · cases h
  rename_i hau
  have ha : ur_au T = true := by cases z : ur_au T <;> simp_all
  have a1 := ur_e_lo2 ha
  have a2 := ur_u_lo ha
  have a3 := ur_u_hi ha
  have a4 := ur_h_lo ha
  have a5 := ur_h_hi ha
  have a6 := ur_p_lo ha
  have a7 := ur_p_hi ha
  split at h
  · cases h; omega
  split at h
  · split at h
    · cases h
    · cases h; omega
  split at h
  · cases h; omega
  split at h
  · rename_i hp
    unfold ur_hp at hp
    rw [Bool.and_eq_true, decide_eq_true_eq] at hp
    cases h
    have := hp.1
    omega
  · cases h
theorem ur_port_eq {h e : Nat} (he : h ≤ e) (hb : ur_at T h = 91 → h < e) : (decide (ur_p' T h e < e) && !ur_br' T h e) = (decide (ur_p' T h e < e) && decide (ur_at T (ur_p' T h e) = 58)) := by
  by_cases z : ur_p' T h e < e
  · rw [decide_eq_true z, Bool.true_and, Bool.true_and]
    by_cases y : ur_at T h = 91
    · have l : ¬ e ≤ ur_find T 93 h e := by
        intro w
        have : ur_p' T h e = e := by unfold ur_p'; rw [if_pos y, if_neg (by omega)]
        omega
      unfold ur_br'
      rw [decide_eq_true y, decide_eq_false l, decide_eq_true z, Bool.true_and, Bool.false_or, Bool.true_and, Bool.not_not]
    · have e1 : ur_p' T h e = ur_find T 58 h e := if_neg y
      have e2 : ur_at T (ur_p' T h e) = 58 := by rw [e1] at z ⊢; exact ur_find_is he z
      unfold ur_br'
      rw [decide_eq_false y, decide_eq_true e2]; rfl
  · rw [decide_eq_false z]; rfl
end
def ur_fX (r : Nat) (T : List Int32) (k : Nat) : Int32 := match ur_B T k with | none => -1 | some p => nI (r * 128 + p.1)
def ur_tX (r : Nat) (T : List Int32) (k : Nat) : Int32 := match ur_B T k with | none => -1 | some p => nI (r * 128 + p.2)
theorem ur_fX_s {r k a b : Nat} {T : List Int32} (h : ur_B T k = some (a, b)) : ur_fX r T k = nI (r * 128 + a) := by unfold ur_fX; rw [h]
theorem ur_tX_s {r k a b : Nat} {T : List Int32} (h : ur_B T k = some (a, b)) : ur_tX r T k = nI (r * 128 + b) := by unfold ur_tX; rw [h]
theorem ur_fX_n {r k : Nat} {T : List Int32} (h : ur_B T k = none) : ur_fX r T k = -1 := by unfold ur_fX; rw [h]
theorem ur_tX_n {r k : Nat} {T : List Int32} (h : ur_B T k = none) : ur_tX r T k = -1 := by unfold ur_tX; rw [h]
def ur_E (T : List Int32) (k e : Nat) : Int32 := match ur_B T k with | none => -1 | some p => if e = 0 then nI p.1 else nI p.2
theorem ur_E_n {k e : Nat} {T : List Int32} (h : ur_B T k = none) : ur_E T k e = -1 := by unfold ur_E; rw [h]
theorem ur_E_s {k e a b : Nat} {T : List Int32} (h : ur_B T k = some (a, b)) : ur_E T k e = if e = 0 then nI a else nI b := by unfold ur_E; rw [h]
theorem ur_E_0 {k a b : Nat} {T : List Int32} (h : ur_B T k = some (a, b)) : ur_E T k 0 = nI a := by rw [ur_E_s h]; rfl
theorem ur_E_1 {k a b : Nat} {T : List Int32} (h : ur_B T k = some (a, b)) : ur_E T k 1 = nI b := by rw [ur_E_s h]; rfl
/-- the borders found so far (kinds D) of region r's text T; elsewhere the arrays are as they were -/
def ur_ok (r : Nat) (T : List Int32) (D : List Nat) (fa0 ta0 fa ta : Nat → Int32) : Prop :=
  (∀ k, k < 8 → (k ∈ D → fa (r * 8 + k) = ur_fX r T k ∧ ta (r * 8 + k) = ur_tX r T k) ∧ (¬ k ∈ D → fa (r * 8 + k) = -1 ∧ ta (r * 8 + k) = -1)) ∧
  ∀ j, (j < r * 8 ∨ r * 8 + 8 ≤ j) → fa j = fa0 j ∧ ta j = ta0 j
theorem ur_ok_s {r : Nat} {T : List Int32} {D : List Nat} {fa0 ta0 fa ta : Nat → Int32} (h : ur_ok r T D fa0 ta0 fa ta) {k a b : Nat} (hk : k < 8) (hB : ur_B T k = some (a, b)) :
    ur_ok r T (k :: D) fa0 ta0 (upd fa (r * 8 + k) (nI (r * 128 + a))) (upd ta (r * 8 + k) (nI (r * 128 + b))) := by
  refine ⟨fun j hj => ?_, fun j hj => ?_⟩
  · by_cases e : j = k
    · subst e
      rw [pk_us, pk_us, ur_fX_s hB, ur_tX_s hB]
      exact ⟨fun _ => ⟨rfl, rfl⟩, fun z => absurd List.mem_cons_self z⟩
    · rw [pk_un (by omega), pk_un (by omega)]
      have q := h.1 j hj
      refine ⟨fun z => ?_, fun z => q.2 (fun y => z (List.mem_cons_of_mem _ y))⟩
      rcases List.mem_cons.mp z with y | y
      · exact absurd y e
      · exact q.1 y
  · rw [pk_un (by omega), pk_un (by omega)]
    exact h.2 j hj
theorem ur_ok_n {r : Nat} {T : List Int32} {D : List Nat} {fa0 ta0 fa ta : Nat → Int32} (h : ur_ok r T D fa0 ta0 fa ta) {k : Nat} (hB : ur_B T k = none) :
    ur_ok r T (k :: D) fa0 ta0 fa ta := by
  refine ⟨fun j hj => ?_, h.2⟩
  have q := h.1 j hj
  refine ⟨fun z => ?_, fun z => q.2 (fun y => z (List.mem_cons_of_mem _ y))⟩
  by_cases y : j ∈ D
  · exact q.1 y
  · rcases List.mem_cons.mp z with w | w
    · subst w
      rw [ur_fX_n hB, ur_tX_n hB]; exact q.2 y
    · exact absurd w y
/-- the borders of region r's text T stand in the arrays -/
def ur_BX (r : Nat) (T : List Int32) (fa ta : Nat → Int32) : Prop := ∀ k, k < 8 → fa (r * 8 + k) = ur_fX r T k ∧ ta (r * 8 + k) = ur_tX r T k
theorem ur_ok_BX {r : Nat} {T : List Int32} {D : List Nat} {fa0 ta0 fa ta : Nat → Int32} (h : ur_ok r T D fa0 ta0 fa ta) (hD : ∀ k, k < 8 → k ∈ D) : ur_BX r T fa ta :=
  fun k hk => (h.1 k hk).1 (hD k hk)
theorem ur_ok_keep {r s : Nat} {T S : List Int32} {D : List Nat} {fa0 ta0 fa ta : Nat → Int32} (h : ur_ok r T D fa0 ta0 fa ta) (hs : s ≠ r) (hB : ur_BX s S fa0 ta0) : ur_BX s S fa ta := by
  intro k hk
  have q := h.2 (s * 8 + k) (by omega)
  rw [q.1, q.2]; exact hB k hk
end
section
/-! the component's split -/
def ur_seX (r b : Nat) : Int32 := if b = 0 then -1 else nI (r * 128 + (b - 1))
section
variable {bh lim cnt : Int32} {m l fa ta wa fa0 ta0 : Nat → Int32} {L : Nat → Option (List Int32)} {T : List Int32}
theorem xa_mark {post : SX → Prop} (r k : Nat) {p a b : Int32} (hr : r < 11) (hk : k < 8) (hp : p = nI (r * 8 + k))
    (kk : post (ur_x bh lim cnt m l (upd fa (r * 8 + k) a) (upd ta (r * 8 + k) b) wa)) : wpX_mark post (ur_x bh lim cnt m l fa ta wa) p a b := by
  have hv : vp_in p 88 := by rw [hp]; exact vp_in_nI (by omega) (by decide)
  have e : p.toNatClampNeg = r * 8 + k := by rw [hp]; exact nI_clamp (by omega)
  unfold wpX_mark
  dsimp only
  rw [e]
  exact ⟨hv, nm_e ⟨hv, nm_e kk⟩⟩
theorem xl_se {post : Int32 → Prop} (r : Nat) (h : ur_M 128 L m l) (hr : r < 11) (hL : L r = some T) :
    ∀ (x : List Int32) (i : Nat), ur_G T.length (ur_at T) i x → i + x.length = T.length → post (ur_seX r (ur_sg i x)) →
    wX_schemeEnd_2 post (nI (r * 128 + T.length)) 128 6 7 8 9 10 bh lim cnt m l fa ta wa (x.length + 1) (nI (r * 128 + i))
  | [], i, _, hi, k => by
    have q := ur_M_le h hr hL
    exact br_t (nI_le (by simp at hi; omega) (by omega)) k
  | c :: x, i, hG, hi, k => by
    have q := ur_M_le h hr hL
    obtain ⟨h1, h2, h3⟩ := ur_G_cons hG
    rw [List.length_cons] at hi
    refine br_f (nI_ge (by omega) (by omega)) ⟨vp_in_nI (by omega) (by decide), nm_r (e' := c) (by rw [nI_clamp (by omega), ur_M_at h hr hL h1]; exact h2) ?_⟩
    unfold ur_sg at k
    refine ur_bi (P := fun b => post (ur_seX r b)) k (fun k => k) fun k => ?_
    refine ur_bi (P := fun b => post (ur_seX r b)) k (fun k => k) fun k => ?_
    refine ur_bi (P := fun b => post (ur_seX r b)) k (fun k => k) fun k => ?_
    refine ur_bi (P := fun b => post (ur_seX r b)) k (fun k => k) fun k => ?_
    exact nm_r (nI_1 _) (xl_se r h hr hL x (i + 1) h3 (by omega) k)
theorem xa_se {post : Int32 → Prop} (r : Nat) (h : ur_M 128 L m l) (hr : r < 11) (hL : L r = some T) (k : post (ur_seX r (ur_sb T))) :
    wpX_schemeEnd post (ur_x bh lim cnt m l fa ta wa) (nI (r * 128)) (nI (r * 128 + T.length)) := by
  have G : ur_G T.length (ur_at T) 0 T := ⟨by omega, fun i _ => by rw [Nat.zero_add]⟩
  exact ⟨_, xl_se r h hr hL T 0 G (by omega) k⟩
theorem xs_222 {post : SX → Prop} (r : Nat) {D : List Nat} (hr : r < 11) (ok : ur_ok r T D fa0 ta0 fa ta)
    (k : ∀ fa ta, ur_ok r T (4 :: D) fa0 ta0 fa ta → post (ur_x bh lim cnt m l fa ta wa)) :
    wX_split_222 post (nI (r * 8)) (nI (r * 128 + ur_e T)) (nI (r * 128 + ur_q T)) 128 6 7 8 9 10 bh lim cnt m l fa ta wa := by
  unfold wX_split_222
  exact xa_mark r 4 hr (by decide) (nI_add _ 4) (k _ _ (ur_ok_s ok (by decide) (ur_B4 T)))
theorem xs_124 {post : SX → Prop} (r : Nat) {D : List Nat} (hr : r < 11) (h8 : T.length ≤ 128) (au : ur_au T = true) (hb : bh = ur_b (ur_br' T (ur_h T) (ur_e T))) (ok : ur_ok r T D fa0 ta0 fa ta)
    (k : ∀ fa ta, ur_ok r T (3 :: 2 :: D) fa0 ta0 fa ta → post (ur_x bh lim cnt m l fa ta wa)) :
    wX_splitAuthority_124 post (nI (r * 8)) (nI (r * 128 + ur_e T)) (nI (r * 128 + ur_h T)) (nI (r * 128 + ur_p T)) 128 6 7 8 9 10 bh lim cnt m l fa ta wa := by
  have e1 := ur_e_le T
  have e2 := ur_p_hi au
  have hB2 : ur_B T 2 = some (ur_h T, ur_p T) := by rw [ur_B2, if_neg (by rw [au]; decide)]
  have ok2 := ur_ok_s ok (k := 2) (by decide) hB2
  have pe := ur_port_eq (T := T) (ur_h_hi au) (ur_bk_lt au)
  have hB3 : ur_B T 3 = if ur_hp T = true then some (ur_p T + 1, ur_e T) else none := by rw [ur_B3, if_neg (by rw [au]; decide)]
  have hh : ur_hp T = (decide (ur_p T < ur_e T) && !ur_br' T (ur_h T) (ur_e T)) := pe.symm
  unfold wX_splitAuthority_124
  refine xa_mark r 2 hr (by decide) (nI_add _ 2) ?_
  refine pk_le (r * 128 + ur_e T) (r * 128 + ur_p T) (fun z => ?_) (fun z => ?_)
  · refine k _ _ (ur_ok_n ok2 ?_)
    rw [hB3, hh, decide_eq_false (by omega)]; rfl
  · rw [decide_eq_true (show ur_p T < ur_e T by omega), Bool.true_and] at hh
    rw [hb]
    cases hz : ur_br' T (ur_h T) (ur_e T)
    · rw [hz] at hh hb
      refine br_t rfl ?_
      refine xa_mark r 3 hr (by decide) (nI_add _ 3) ?_
      have hB3' : ur_B T 3 = some (ur_p T + 1, ur_e T) := by rw [hB3, hh]; rfl
      have := k _ _ (ur_ok_s ok2 (k := 3) (by decide) hB3')
      rw [hb] at this
      rw [nI_1]
      exact this
    · rw [hz] at hh hb
      refine br_f (by decide) ?_
      have hB3' : ur_B T 3 = none := by rw [hB3, hh]; rfl
      have := k _ _ (ur_ok_n ok2 (k := 3) hB3')
      rw [hb] at this
      exact this
theorem xs_35 {post : SX → Prop} (r : Nat) {D : List Nat} (h : ur_M 128 L m l) (hr : r < 11) (hL : L r = some T) (au : ur_au T = true) (ok : ur_ok r T D fa0 ta0 fa ta)
    (k : ∀ fa ta, ur_ok r T (3 :: 2 :: D) fa0 ta0 fa ta → post (ur_x (ur_b (ur_br' T (ur_h T) (ur_e T))) lim cnt m l fa ta wa)) :
    wX_splitAuthority_35 post (nI (r * 8)) (nI (r * 128 + ur_e T)) (nI (r * 128 + ur_h T)) 128 6 7 8 9 10 0 lim cnt m l fa ta wa := by
  have h8 := ur_M_le h hr hL
  have e1 := ur_e_le T
  have e2 := ur_h_hi au
  have nob : ¬ ur_at T (ur_h T) = 91 → wX_splitAuthority_113 post (nI (r * 8)) (nI (r * 128 + ur_e T)) (nI (r * 128 + ur_h T)) 128 6 7 8 9 10 0 lim cnt m l fa ta wa := by
    intro z
    have hb : ur_br' T (ur_h T) (ur_e T) = false := by unfold ur_br'; rw [decide_eq_false z]; rfl
    rw [hb] at k
    unfold wX_splitAuthority_113
    refine xa_find r (ur_h T) (ur_e T) h hr hL e1 (by omega) ?_
    have ep : ur_find T 58 (ur_h T) (ur_e T) = ur_p T := by unfold ur_p ur_p'; rw [if_neg z]
    rw [ep]
    exact xs_124 r hr h8 au (by rw [hb]; rfl) ok k
  unfold wX_splitAuthority_35
  refine pk_le (r * 128 + ur_e T) (r * 128 + ur_h T) (fun z => ?_) (fun z => ⟨vp_in_nI (by omega) (by decide), ?_⟩)
  · exact nob (fun y => by have := ur_bk_lt au y; omega)
  · rw [nI_clamp (show r * 128 + ur_h T < 2 ^ 31 by omega), ur_M_at h hr hL (by omega)]
    by_cases y : ur_at T (ur_h T) = 91
    · refine br_t y ?_
      refine xa_find r (ur_h T) (ur_e T) h hr hL e1 (by omega) ?_
      have f1 := ur_find_hi (T := T) (c := 93) e2
      refine pk_lt (r * 128 + ur_find T 93 (ur_h T) (ur_e T)) (r * 128 + ur_e T) (fun w => ?_) (fun w => ?_)
      · have ep : ur_p T = ur_find T 93 (ur_h T) (ur_e T) + 1 := by unfold ur_p ur_p'; rw [if_pos y, if_pos (by omega)]
        refine nm_r (e' := nI (r * 128 + ur_p T)) (by rw [nI_1, ep]; rfl) ?_
        have hb : ur_br' T (ur_h T) (ur_e T) = (decide (ur_p T < ur_e T) && !decide (ur_at T (ur_p T) = 58)) := by
          unfold ur_br'
          rw [decide_eq_true y, decide_eq_false (by omega), Bool.true_and, Bool.false_or]; rfl
        refine pk_le (r * 128 + ur_e T) (r * 128 + ur_p T) (fun v => ?_) (fun v => ⟨vp_in_nI (by omega) (by decide), ?_⟩)
        · unfold wX_splitAuthority_110
          rw [hb, decide_eq_false (by omega)] at k
          exact xs_124 r hr h8 au (by rw [hb, decide_eq_false (by omega)]; rfl) ok k
        · rw [nI_clamp (show r * 128 + ur_p T < 2 ^ 31 by omega), ur_M_at h hr hL (by omega)]
          rw [decide_eq_true (show ur_p T < ur_e T by omega), Bool.true_and] at hb
          by_cases v2 : ur_at T (ur_p T) = 58
          · refine br_t v2 ?_
            unfold wX_splitAuthority_110
            rw [decide_eq_true v2] at hb
            rw [hb] at k
            exact xs_124 r hr h8 au (by rw [hb]; rfl) ok k
          · refine br_f v2 ?_
            unfold wX_splitAuthority_110
            rw [decide_eq_false v2] at hb
            rw [hb] at k
            exact xs_124 r hr h8 au (by rw [hb]; rfl) ok k
      · have ep : ur_p T = ur_e T := by unfold ur_p ur_p'; rw [if_pos y, if_neg (by omega)]
        have hb : ur_br' T (ur_h T) (ur_e T) = true := by
          unfold ur_br'
          rw [decide_eq_true y, decide_eq_true (by omega)]; rfl
        rw [hb] at k
        unfold wX_splitAuthority_110
        have := xs_124 (bh := 1) (m := m) (l := l) (lim := lim) (cnt := cnt) (wa := wa) r hr h8 au (by rw [hb]; rfl) ok k
        rw [ep] at this
        exact this
    · exact br_f y (nob y)
theorem xs_auth {post : SX → Prop} (r : Nat) {D : List Nat} (h : ur_M 128 L m l) (hr : r < 11) (hL : L r = some T) (au : ur_au T = true) (ok : ur_ok r T D fa0 ta0 fa ta)
    (k : ∀ fa ta, ur_ok r T (3 :: 2 :: 1 :: D) fa0 ta0 fa ta → post (ur_x (ur_b (ur_br' T (ur_h T) (ur_e T))) lim cnt m l fa ta wa)) :
    wpX_splitAuthority post (ur_x 0 lim cnt m l fa ta wa) (nI (r * 8)) (nI (r * 128 + (ur_sb T + 2))) (nI (r * 128 + ur_e T)) := by
  have h8 := ur_M_le h hr hL
  have e1 := ur_e_le T
  have e2 := ur_e_lo2 au
  have hB1 : ur_B T 1 = if ur_u T = ur_e T then none else some (ur_sb T + 2, ur_u T) := by rw [ur_B1, if_neg (by rw [au]; decide)]
  have u1 := ur_u_hi au
  unfold wpX_splitAuthority
  refine xa_find r (ur_sb T + 2) (ur_e T) h hr hL e1 (by omega) ?_
  show ((nI (r * 128 + ur_e T) ≤ nI (r * 128 + ur_u T) → _) ∧ (¬ nI (r * 128 + ur_e T) ≤ nI (r * 128 + ur_u T) → _))
  refine pk_le (r * 128 + ur_e T) (r * 128 + ur_u T) (fun z => ?_) (fun z => ?_)
  · have eh : ur_sb T + 2 = ur_h T := by unfold ur_h; rw [if_neg (by omega)]
    rw [eh]
    exact xs_35 r h hr hL au (ur_ok_n ok (k := 1) (by rw [hB1, if_pos (by omega)])) k
  · have eh : ur_u T + 1 = ur_h T := by unfold ur_h; rw [if_pos (by omega)]
    refine xa_mark r 1 hr (by decide) (nI_1 _) ?_
    refine nm_r (e' := nI (r * 128 + ur_h T)) (by rw [nI_1, ← eh]; rfl) ?_
    exact xs_35 r h hr hL au (ur_ok_s ok (k := 1) (by decide) (by rw [hB1, if_neg (by omega)]; rfl)) k
theorem xs_149 {post : SX → Prop} (r : Nat) {D : List Nat} (h : ur_M 128 L m l) (hr : r < 11) (hL : L r = some T) (ok : ur_ok r T D fa0 ta0 fa ta)
    (k : ∀ fa ta, ur_ok r T (4 :: 3 :: 2 :: 1 :: 7 :: D) fa0 ta0 fa ta → post (ur_x (ur_b (ur_bro T)) lim cnt m l fa ta wa)) :
    wX_split_149 post (nI (r * 8)) (nI (r * 128 + ur_sb T)) (nI (r * 128 + ur_q T)) 128 6 7 8 9 10 0 lim cnt m l fa ta wa := by
  have h8 := ur_M_le h hr hL
  have e1 := ur_q_le T
  have e2 := ur_q_lo T
  have no : ur_au T = false → wX_split_222 post (nI (r * 8)) (nI (r * 128 + ur_sb T)) (nI (r * 128 + ur_q T)) 128 6 7 8 9 10 0 lim cnt m l fa ta wa := by
    intro z
    have hb : ur_bro T = false := by unfold ur_bro; rw [z]; rfl
    rw [hb] at k
    have ok' := ur_ok_n (ur_ok_n (ur_ok_n (ur_ok_n ok (k := 7) (by rw [ur_B7, if_pos z])) (k := 1) (by rw [ur_B1, if_pos z])) (k := 2) (by rw [ur_B2, if_pos z])) (k := 3) (by rw [ur_B3, if_pos z])
    have := xs_222 (bh := 0) (m := m) (l := l) (lim := lim) (cnt := cnt) (wa := wa) r hr ok' k
    rw [ur_e_f z] at this
    exact this
  unfold wX_split_149
  rw [pk_sub (show r * 128 + ur_sb T ≤ r * 128 + ur_q T by omega)]
  refine pk_lt (r * 128 + ur_q T - (r * 128 + ur_sb T)) 2 (fun z => ?_) (fun z => ⟨vp_in_nI (by omega) (by decide), ?_⟩)
  · refine no ?_
    cases w : ur_au T
    · rfl
    · have := ur_au_q w; omega
  · rw [nI_clamp (show r * 128 + ur_sb T < 2 ^ 31 by omega), ur_M_at h hr hL (by omega), nI_1, nI_clamp (show r * 128 + ur_sb T + 1 < 2 ^ 31 by omega), Nat.add_assoc (r * 128) (ur_sb T) 1, ur_M_at h hr hL (show ur_sb T + 1 < T.length by omega)]
    by_cases a1 : ur_at T (ur_sb T) = 47
    · refine br_t a1 ⟨vp_in_nI (by omega) (by decide), ?_⟩
      by_cases a2 : ur_at T (ur_sb T + 1) = 47
      · have au : ur_au T = true := by unfold ur_au; rw [decide_eq_true a1, decide_eq_true a2]; rfl
        refine br_t a2 (nm_r (e' := nI (r * 128 + (ur_sb T + 2))) (ur_p2 _) ?_)
        refine xa_find r (ur_sb T + 2) (ur_q T) h hr hL e1 (by omega) ?_
        rw [← ur_e_t au]
        refine xa_mark r 7 hr (by decide) (nI_add _ 7) ?_
        have ok7 := ur_ok_s ok (k := 7) (by decide) (show ur_B T 7 = some (ur_sb T + 2, ur_e T) by rw [ur_B7, if_neg (by rw [au]; decide)])
        refine xs_auth r h hr hL au ok7 (fun fa ta ok3 => ?_)
        have hb : ur_bro T = ur_br' T (ur_h T) (ur_e T) := by unfold ur_bro; rw [au]; rfl
        rw [hb] at k
        exact xs_222 r hr ok3 k
      · refine br_f a2 (no ?_)
        unfold ur_au; rw [decide_eq_false a2, Bool.and_false]
    · refine br_f a1 (no ?_)
      unfold ur_au; rw [decide_eq_false a1, Bool.false_and]
theorem xs_114 {post : SX → Prop} (r : Nat) {D : List Nat} (h : ur_M 128 L m l) (hr : r < 11) (hL : L r = some T) (ok : ur_ok r T D fa0 ta0 fa ta)
    (k : ∀ fa ta, ur_ok r T (4 :: 3 :: 2 :: 1 :: 7 :: 5 :: D) fa0 ta0 fa ta → post (ur_x (ur_b (ur_bro T)) lim cnt m l fa ta wa)) :
    wX_split_114 post (nI (r * 8)) (nI (r * 128 + ur_sb T)) (nI (r * 128 + ur_f T)) 128 6 7 8 9 10 0 lim cnt m l fa ta wa := by
  have h8 := ur_M_le h hr hL
  have e1 := ur_f_hi T
  have e2 := ur_q_hi T
  have e3 := ur_sb_le T
  unfold wX_split_114
  refine xa_find r (ur_sb T) (ur_f T) h hr hL e1 (by omega) ?_
  show ((nI (r * 128 + ur_f T) ≤ nI (r * 128 + ur_q T) → _) ∧ (¬ nI (r * 128 + ur_f T) ≤ nI (r * 128 + ur_q T) → _))
  refine pk_le (r * 128 + ur_f T) (r * 128 + ur_q T) (fun z => ?_) (fun z => ?_)
  · have eq : ur_q T = ur_f T := by omega
    have := xs_149 r h hr hL (ur_ok_n ok (k := 5) (by rw [ur_B5, if_pos eq])) k
    rw [eq] at this
    exact this
  · refine xa_mark r 5 hr (by decide) (nI_add _ 5) ?_
    rw [nI_1]
    exact xs_149 r h hr hL (ur_ok_s ok (k := 5) (by decide) (by rw [ur_B5, if_neg (by omega)])) k
theorem xs_78 {post : SX → Prop} (r : Nat) {D : List Nat} (h : ur_M 128 L m l) (hr : r < 11) (hL : L r = some T) (ok : ur_ok r T D fa0 ta0 fa ta)
    (k : ∀ fa ta, ur_ok r T (4 :: 3 :: 2 :: 1 :: 7 :: 5 :: 6 :: D) fa0 ta0 fa ta → post (ur_x (ur_b (ur_bro T)) lim cnt m l fa ta wa)) :
    wX_split_78 post (nI (r * 8)) (nI (r * 128 + ur_sb T)) (nI (r * 128 + T.length)) 128 6 7 8 9 10 0 lim cnt m l fa ta wa := by
  have h8 := ur_M_le h hr hL
  have e1 := ur_f_hi T
  have e3 := ur_sb_le T
  unfold wX_split_78
  refine xa_find r (ur_sb T) T.length h hr hL (Nat.le_refl _) (by omega) ?_
  show ((nI (r * 128 + T.length) ≤ nI (r * 128 + ur_f T) → _) ∧ (¬ nI (r * 128 + T.length) ≤ nI (r * 128 + ur_f T) → _))
  refine pk_le (r * 128 + T.length) (r * 128 + ur_f T) (fun z => ?_) (fun z => ?_)
  · have eq : ur_f T = T.length := by omega
    have := xs_114 r h hr hL (ur_ok_n ok (k := 6) (by rw [ur_B6, if_pos eq])) k
    rw [eq] at this
    exact this
  · refine xa_mark r 6 hr (by decide) (nI_add _ 6) ?_
    rw [nI_1]
    exact xs_114 r h hr hL (ur_ok_s ok (k := 6) (by decide) (by rw [ur_B6, if_neg (by omega)])) k
theorem xs_7 {post : SX → Prop} (r : Nat) (h : ur_M 128 L m l) (hr : r < 11) (hL : L r = some T)
    (k : ∀ fa ta, ur_BX r T fa ta → (∀ s S, s ≠ r → ur_BX s S fa0 ta0 → ur_BX s S fa ta) → post (ur_x (ur_b (ur_bro T)) lim cnt m l fa ta wa)) :
    ∀ (d i : Nat) (bh : Int32) (fa ta : Nat → Int32), i + d = 8 → (∀ k, k < i → fa (r * 8 + k) = -1 ∧ ta (r * 8 + k) = -1) → (∀ j, (j < r * 8 ∨ r * 8 + 8 ≤ j) → fa j = fa0 j ∧ ta j = ta0 j) →
    wX_split_7 post (nI r) (nI (r * 8)) (d + 1) (nI i) 128 6 7 8 9 10 bh lim cnt m l fa ta wa := by
  have h8 := ur_M_le h hr hL
  have e3 := ur_sb_le T
  intro d
  induction d with
  | zero =>
    intro i bh fa ta hi h1 h2
    have ok : ur_ok r T [] fa0 ta0 fa ta := ⟨fun k hk => ⟨fun z => absurd z List.not_mem_nil, fun _ => h1 k (by omega)⟩, h2⟩
    have e8 : i = 8 := by omega
    subst e8
    have fin : ∀ (D : List Nat), (∀ k, k < 8 → k ∈ 4 :: 3 :: 2 :: 1 :: 7 :: 5 :: 6 :: D) → ∀ fa ta, ur_ok r T (4 :: 3 :: 2 :: 1 :: 7 :: 5 :: 6 :: D) fa0 ta0 fa ta → post (ur_x (ur_b (ur_bro T)) lim cnt m l fa ta wa) :=
      fun D hD fa ta ok => k fa ta (ur_ok_BX ok hD) (fun s S hs hB => ur_ok_keep ok hs hB)
    refine br_t (by decide) (nm_r (ur_m128 r) ⟨vp_in_nI hr (by decide), nm_r (e' := nI (r * 128 + T.length)) (by rw [nI_clamp (by omega), ur_M_len h hr hL, nI_add]) ?_⟩)
    refine xa_se r h hr hL ?_
    by_cases z : ur_sb T = 0
    · have e : ur_seX r (ur_sb T) = -1 := if_pos z
      rw [e]
      refine br_t ur_m1lt ?_
      have := xs_78 r h hr hL (ur_ok_n ok (k := 0) (by rw [ur_B0, if_pos z])) (fin [0] (by decide))
      rw [z] at this
      exact this
    · have e : ur_seX r (ur_sb T) = nI (r * 128 + (ur_sb T - 1)) := if_neg z
      rw [e]
      refine br_f (nI_pos (by omega)) ?_
      refine xa_mark r 0 hr (by decide) (nI_add _ 0) ?_
      refine nm_r (e' := nI (r * 128 + ur_sb T)) (by rw [nI_1]; exact congrArg nI (by omega)) ?_
      exact xs_78 r h hr hL (ur_ok_s ok (k := 0) (a := 0) (by decide) (by rw [ur_B0, if_neg z])) (fin [0] (by decide))
  | succ d ih =>
    intro i bh fa ta hi h1 h2
    refine br_f (nI_ge (b := 8) (by omega) (by decide)) ?_
    refine xa_mark r i hr (by omega) (nI_add _ _) ?_
    refine nm_r (nI_1 _) ?_
    refine ih (i + 1) bh _ _ (by omega) (fun k hk => ?_) (fun j hj => ?_)
    · by_cases e : k = i
      · subst e; exact ⟨pk_us, pk_us⟩
      · rw [pk_un (by omega), pk_un (by omega)]; exact h1 k (by omega)
    · rw [pk_un (by omega), pk_un (by omega)]; exact h2 j hj
/-- split: the borders of region r's text stand in the arrays, those of other regions stay -/
theorem xa_split {post : SX → Prop} (r : Nat) (h : ur_M 128 L m l) (hr : r < 11) (hL : L r = some T)
    (k : ∀ fa' ta', ur_BX r T fa' ta' → (∀ s S, s ≠ r → ur_BX s S fa ta → ur_BX s S fa' ta') → post (ur_x (ur_b (ur_bro T)) lim cnt m l fa' ta' wa)) :
    wpX_split post (ur_x bh lim cnt m l fa ta wa) (nI r) :=
  nm_r (ur_m8 r) ⟨9, xs_7 r h hr hL k 8 0 bh fa ta rfl (fun k hk => absurd hk (Nat.not_lt_zero _)) (fun _ _ => ⟨rfl, rfl⟩)⟩
theorem xa_has {post : Int32 → Prop} (r k : Nat) (hr : r < 11) (hk : k < 8) (hB : ur_BX r T fa ta) (h8 : T.length ≤ 128) (kk : post (ur_b (ur_B T k).isSome)) :
    wpX_has post (ur_x bh lim cnt m l fa ta wa) (nI r) (nI k) := by
  unfold wpX_has
  dsimp only
  rw [ur_m8, nI_add, nI_clamp (show r * 8 + k < 2 ^ 31 by omega), (hB k hk).1]
  refine ⟨vp_in_nI (by omega) (by decide), ?_⟩
  cases hz : ur_B T k with
  | none => rw [ur_fX_n hz]; rw [hz] at kk; exact br_t ur_m1lt kk
  | some p =>
    have q := ur_B_b (a := p.1) (b := p.2) hz
    rw [ur_fX_s (a := p.1) (b := p.2) hz]; rw [hz] at kk; exact br_f (nI_pos (by omega)) kk
end
end
section
/-! the reference's edge -/
section
variable {lim cnt : Int32} {yc yn ys ye : Nat → Int32} {L : Nat → Option (List Int32)} {T : List Int32} {post : Int32 → Prop}
theorem ye_two {kd ed a b : Nat} (hB : ur_B T kd = some (a, b)) (he : ed ≤ 1) (k : post (ur_E T kd ed)) : (nI ed = 0 → post (nI a)) ∧ (¬ nI ed = 0 → post (nI b)) := by
  rw [ur_E_s hB] at k
  refine pk_eq ed 0 (fun z => ?_) (fun z => ?_)
  · rw [if_pos z] at k; exact k
  · rw [if_neg z] at k; exact k
theorem ye_411 (r kd ed : Nat) (h : ur_M 256 L yc yn) (hr : r < 11) (hL : L r = some T) (au : ur_au T = true) (hk : kd = 2 ∨ kd = 3) (he : ed ≤ 1) (k : post (ur_E T kd ed)) :
    wY_edge_411 post (nI r) (nI kd) (nI ed) (nI (ur_e T)) (nI (ur_h T)) (nI (ur_p T)) lim cnt yc yn ys ye := by
  have h8 := ur_M_le h hr hL
  have e1 := ur_e_le T
  have e2 := ur_p_hi au
  unfold wY_edge_411
  refine pk_eq kd 2 (fun z => ?_) (fun z => ?_)
  · subst z
    exact ye_two (by rw [ur_B2, if_neg (by rw [au]; decide)]) he k
  · have z3 : kd = 3 := by omega
    subst z3
    have hB3 : ur_B T 3 = if ur_hp T = true then some (ur_p T + 1, ur_e T) else none := by rw [ur_B3, if_neg (by rw [au]; decide)]
    refine pk_eq (ur_p T) (ur_e T) (fun w => ?_) (fun w => ?_)
    · have : ur_B T 3 = none := by rw [hB3, if_neg]; unfold ur_hp; rw [decide_eq_false (by omega)]; simp
      rw [ur_E_n this] at k; exact k
    · refine ya_at r (ur_p T) h hr hL (by omega) ?_
      by_cases v : ur_at T (ur_p T) = 58
      · refine br_t v ?_
        have : ur_B T 3 = some (ur_p T + 1, ur_e T) := by rw [hB3, if_pos]; unfold ur_hp; rw [decide_eq_true (by omega), decide_eq_true v]; rfl
        rw [nI_1]
        exact ye_two this he k
      · refine br_f v ?_
        have : ur_B T 3 = none := by rw [hB3, if_neg]; unfold ur_hp; rw [decide_eq_false v, Bool.and_false]; decide
        rw [ur_E_n this] at k; exact k
theorem ye_328 (r kd ed : Nat) (h : ur_M 256 L yc yn) (hr : r < 11) (hL : L r = some T) (au : ur_au T = true) (hk : kd = 1 ∨ kd = 2 ∨ kd = 3) (he : ed ≤ 1) (k : post (ur_E T kd ed)) :
    wY_edge_328 post (nI r) (nI kd) (nI ed) (nI (ur_sb T)) (nI (ur_e T)) (nI (ur_u T)) (nI (ur_h T)) lim cnt yc yn ys ye := by
  have h8 := ur_M_le h hr hL
  have e1 := ur_e_le T
  have e2 := ur_h_hi au
  have e3 := ur_u_hi au
  unfold wY_edge_328
  refine pk_eq kd 1 (fun z => ?_) (fun z => ?_)
  · subst z
    have hB1 : ur_B T 1 = if ur_u T = ur_e T then none else some (ur_sb T + 2, ur_u T) := by rw [ur_B1, if_neg (by rw [au]; decide)]
    refine pk_eq (ur_u T) (ur_e T) (fun w => ?_) (fun w => ?_)
    · rw [if_pos w] at hB1; rw [ur_E_n hB1] at k; exact k
    · rw [if_neg w] at hB1
      rw [ur_p2]
      exact ye_two hB1 he k
  · refine ya_at r (ur_h T) h hr hL (by omega) ?_
    by_cases y : ur_at T (ur_h T) = 91
    · refine br_t y ?_
      unfold wY_edge_379
      refine ya_find r (ur_h T) (ur_e T) h hr hL (by omega) (by omega) (br_t rfl ?_)
      have f1 := ur_find_hi (T := T) (c := 93) e2
      refine pk_le (ur_e T) (ur_find T 93 (ur_h T) (ur_e T)) (fun w => ?_) (fun w => ?_)
      · have ep : ur_p T = ur_find T 93 (ur_h T) (ur_e T) := by unfold ur_p ur_p'; rw [if_pos y, if_neg (by omega)]; omega
        rw [← ep]
        exact ye_411 r kd ed h hr hL au (by omega) he k
      · have ep : ur_p T = ur_find T 93 (ur_h T) (ur_e T) + 1 := by unfold ur_p ur_p'; rw [if_pos y, if_pos (by omega)]
        refine nm_r (nI_1 _) ?_
        rw [← ep]
        exact ye_411 r kd ed h hr hL au (by omega) he k
    · refine br_f y ?_
      unfold wY_edge_379
      refine ya_find r (ur_h T) (ur_e T) h hr hL (by omega) (by omega) (br_f (by decide) ?_)
      have ep : ur_p T = ur_find T 58 (ur_h T) (ur_e T) := by unfold ur_p ur_p'; rw [if_neg y]
      rw [← ep]
      exact ye_411 r kd ed h hr hL au (by omega) he k
theorem ye_162 (r kd ed : Nat) (h : ur_M 256 L yc yn) (hr : r < 11) (hL : L r = some T) (hk : kd < 8) (he : ed ≤ 1) (k : post (ur_E T kd ed)) :
    wY_edge_162 post (nI r) (nI kd) (nI ed) (nI (ur_sb T)) (nI T.length) (nI (ur_f T)) (nI (ur_q T)) (ur_b (ur_au T)) (nI (ur_e T)) lim cnt yc yn ys ye := by
  have h8 := ur_M_le h hr hL
  have e1 := ur_e_le T
  have e2 := ur_q_le T
  have e3 := ur_f_hi T
  have e4 := ur_sb_le T
  unfold wY_edge_162
  refine pk_eq kd 0 (fun z => ?_) (fun z0 => ?_)
  · subst z
    have hB := ur_B0 T
    refine pk_eq (ur_sb T) 0 (fun w => ?_) (fun w => ?_)
    · rw [if_pos w] at hB; rw [ur_E_n hB] at k; exact k
    · rw [if_neg w] at hB
      rw [ur_s1 (by omega)]
      exact ye_two hB he k
  refine pk_eq kd 4 (fun z => ?_) (fun z4 => ?_)
  · subst z
    exact ye_two (ur_B4 T) he k
  refine pk_eq kd 5 (fun z => ?_) (fun z5 => ?_)
  · subst z
    have hB := ur_B5 T
    refine pk_eq (ur_q T) (ur_f T) (fun w => ?_) (fun w => ?_)
    · rw [if_pos w] at hB; rw [ur_E_n hB] at k; exact k
    · rw [if_neg w] at hB
      rw [nI_1]
      exact ye_two hB he k
  refine pk_eq kd 6 (fun z => ?_) (fun z6 => ?_)
  · subst z
    have hB := ur_B6 T
    refine pk_eq (ur_f T) T.length (fun w => ?_) (fun w => ?_)
    · rw [if_pos w] at hB; rw [ur_E_n hB] at k; exact k
    · rw [if_neg w] at hB
      rw [nI_1]
      exact ye_two hB he k
  refine ur_br (fun au => ?_) (fun au => ?_)
  · have : ur_B T kd = none := by
      unfold ur_B
      rw [if_neg z0, if_neg z4, if_neg z5, if_neg z6, if_pos au]
    rw [ur_E_n this] at k; exact k
  refine pk_eq kd 7 (fun z => ?_) (fun z7 => ?_)
  · subst z
    rw [ur_p2]
    exact ye_two (by rw [ur_B7, if_neg (by rw [au]; decide)]) he k
  have u1 := ur_u_hi au
  rw [ur_p2]
  refine ya_find r (ur_sb T + 2) (ur_e T) h hr hL (by omega) (by omega) ?_
  show ((nI (ur_e T) ≤ nI (ur_u T) → _) ∧ (¬ nI (ur_e T) ≤ nI (ur_u T) → _))
  refine pk_le (ur_e T) (ur_u T) (fun w => ?_) (fun w => ?_)
  · have eh : ur_sb T + 2 = ur_h T := by unfold ur_h; rw [if_neg (by omega)]
    show wY_edge_328 post (nI r) (nI kd) (nI ed) (nI (ur_sb T)) (nI (ur_e T)) (nI (ur_u T)) (nI (ur_sb T + 2)) lim cnt yc yn ys ye
    rw [eh]
    exact ye_328 r kd ed h hr hL au (by omega) he k
  · have eh : ur_u T + 1 = ur_h T := by unfold ur_h; rw [if_pos (by omega)]
    rw [nI_1]
    show wY_edge_328 post (nI r) (nI kd) (nI ed) (nI (ur_sb T)) (nI (ur_e T)) (nI (ur_u T)) (nI (ur_u T + 1)) lim cnt yc yn ys ye
    rw [eh]
    exact ye_328 r kd ed h hr hL au (by omega) he k
theorem ye_17 (r kd ed : Nat) (h : ur_M 256 L yc yn) (hr : r < 11) (hL : L r = some T) (hk : kd < 8) (he : ed ≤ 1) (k : post (ur_E T kd ed)) :
    ∀ i, i ≤ T.length → wY_edge_17 post (nI r) (nI kd) (nI ed) (nI T.length) lim cnt yc yn ys ye (i + 1) (nI (ur_sg i (T.drop i))) (nI i + (-1)) := by
  have h8 := ur_M_le h hr hL
  have e1 := ur_e_le T
  have e2 := ur_q_le T
  have e3 := ur_f_hi T
  have e4 := ur_sb_le T
  intro i
  induction i with
  | zero =>
    intro _
    rw [List.drop_zero]
    show wY_edge_17 post (nI r) (nI kd) (nI ed) (nI T.length) lim cnt yc yn ys ye (0 + 1) (nI (ur_sb T)) (nI 0 + (-1))
    refine br_t (by decide) ?_
    refine ya_find r (ur_sb T) T.length h hr hL (by omega) (by omega) ?_
    refine ya_find r (ur_sb T) (ur_f T) h hr hL (by omega) (by omega) ?_
    refine ya_at r (ur_sb T) h hr hL (by omega) ?_
    have no : ur_au T = false → wY_edge_136 post (nI r) (nI kd) (nI ed) (nI (ur_sb T)) (nI T.length) (nI (ur_f T)) (nI (ur_q T)) lim cnt yc yn ys ye := by
      intro z
      unfold wY_edge_136 wY_edge_137
      refine br_t rfl ?_
      have := ye_162 (lim := lim) (cnt := cnt) (ys := ys) (ye := ye) r kd ed h hr hL hk he k
      rw [z, ur_e_f z] at this
      exact this
    by_cases a1 : ur_at T (ur_sb T) = 47
    · refine br_t a1 ?_
      rw [nI_1]
      refine ya_at r (ur_sb T + 1) h hr hL (by omega) ?_
      by_cases a2 : ur_at T (ur_sb T + 1) = 47
      · have au : ur_au T = true := by unfold ur_au; rw [decide_eq_true a1, decide_eq_true a2]; rfl
        refine br_t a2 ?_
        unfold wY_edge_137
        refine br_f (by decide) ?_
        rw [ur_p2]
        refine ya_find r (ur_sb T + 2) (ur_q T) h hr hL (by omega) (by omega) ?_
        have := ye_162 (lim := lim) (cnt := cnt) (ys := ys) (ye := ye) r kd ed h hr hL hk he k
        rw [au, ur_e_t au] at this
        exact this
      · refine br_f a2 (no ?_)
        unfold ur_au; rw [decide_eq_false a2, Bool.and_false]
    · refine br_f a1 (no ?_)
      unfold ur_au; rw [decide_eq_false a1, Bool.false_and]
  | succ j ih =>
    intro hj
    have ih := ih (by omega)
    rw [pk_m1]
    refine br_f (nI_pos (by omega)) ?_
    refine ya_at r j h hr hL (by omega) ?_
    have ed : T.drop j = ur_at T j :: T.drop (j + 1) := by
      apply ur_ext
      · simp only [List.length_cons, List.length_drop]; omega
      · intro x hx
        rw [ur_at_drop]
        cases x with
        | zero => rfl
        | succ x =>
          show _ = ur_at (T.drop (j + 1)) x
          rw [ur_at_drop]; exact congrArg _ (by omega)
    rw [ed] at ih
    by_cases c1 : ur_at T j = 58
    · have e : ur_sg j (ur_at T j :: T.drop (j + 1)) = j + 1 := by unfold ur_sg; rw [if_pos c1]
      rw [e] at ih
      exact br_t c1 (nm_r (nI_1 _) (nm_e ih))
    refine br_f c1 ?_
    by_cases c2 : ur_at T j = 47
    · have e : ur_sg j (ur_at T j :: T.drop (j + 1)) = 0 := by unfold ur_sg; rw [if_neg c1, if_pos c2]
      rw [e] at ih
      exact br_t c2 (nm_e ih)
    refine br_f c2 ?_
    by_cases c3 : ur_at T j = 63
    · have e : ur_sg j (ur_at T j :: T.drop (j + 1)) = 0 := by unfold ur_sg; rw [if_neg c1, if_neg c2, if_pos c3]
      rw [e] at ih
      exact br_t c3 (nm_e ih)
    refine br_f c3 ?_
    by_cases c4 : ur_at T j = 35
    · have e : ur_sg j (ur_at T j :: T.drop (j + 1)) = 0 := by unfold ur_sg; rw [if_neg c1, if_neg c2, if_neg c3, if_pos c4]
      rw [e] at ih
      exact br_t c4 (nm_e ih)
    · have e : ur_sg j (ur_at T j :: T.drop (j + 1)) = ur_sg (j + 1) (T.drop (j + 1)) := by rw [ur_sg, if_neg c1, if_neg c2, if_neg c3, if_neg c4]
      rw [e] at ih
      exact br_f c4 (nm_e ih)
theorem ya_edge (r kd ed : Nat) (h : ur_M 256 L yc yn) (hr : r < 11) (hL : L r = some T) (hk : kd < 8) (he : ed ≤ 1) (k : post (ur_E T kd ed)) :
    wpY_edge post (ur_y lim cnt yc yn ys ye) (nI r) (nI kd) (nI ed) := by
  have q := ye_17 (lim := lim) (cnt := cnt) (ys := ys) (ye := ye) r kd ed h hr hL hk he k T.length (Nat.le_refl _)
  have e0 : ur_sg T.length (T.drop T.length) = 0 := by rw [List.drop_length]; rfl
  rw [e0] at q
  unfold wpY_edge
  dsimp only
  rw [nI_clamp (show r < 2 ^ 31 by omega), ur_M_len h hr hL]
  refine ⟨vp_in_nI hr (by decide), nm_e (nm_r (Int32.sub_eq_add_neg _ _) ⟨_, q⟩)⟩
theorem ya_begin (r kd : Nat) (h : ur_M 256 L yc yn) (hr : r < 11) (hL : L r = some T) (hk : kd < 8) (k : post (ur_E T kd 0)) :
    wpY_begin post (ur_y lim cnt yc yn ys ye) (nI r) (nI kd) := ya_edge r kd 0 h hr hL hk (by decide) k
theorem ya_end (r kd : Nat) (h : ur_M 256 L yc yn) (hr : r < 11) (hL : L r = some T) (hk : kd < 8) (k : post (ur_E T kd 1)) :
    wpY_end post (ur_y lim cnt yc yn ys ye) (nI r) (nI kd) := ya_edge r kd 1 h hr hL hk (by decide) k
end
end
section
/-! components, and when they are good: pure -/
def ur_C (T : List Int32) (k : Nat) : List Int32 := match ur_B T k with | none => [] | some p => ur_ex T p.1 p.2
theorem ur_C_s {k a b : Nat} {T : List Int32} (h : ur_B T k = some (a, b)) : ur_C T k = ur_ex T a b := by unfold ur_C; rw [h]
theorem ur_C_n {k : Nat} {T : List Int32} (h : ur_B T k = none) : ur_C T k = [] := by unfold ur_C; rw [h]
/-- the range x .. y-1 of g holds l -/
def ur_R (N : Nat) (g : Nat → Int32) (x y : Int32) (l : List Int32) : Prop := (l = [] ∧ y ≤ x) ∨ ∃ a, x = nI a ∧ y = nI (a + l.length) ∧ ur_G N g a l
theorem ur_R_Y (T : List Int32) (k : Nat) : ur_R T.length (ur_at T) (ur_E T k 0) (ur_E T k 1) (ur_C T k) := by
  cases h : ur_B T k with
  | none => rw [ur_E_n h, ur_E_n h, ur_C_n h]; exact Or.inl ⟨rfl, by decide⟩
  | some p =>
    have q := ur_B_b (a := p.1) (b := p.2) h
    rw [ur_E_0 (a := p.1) (b := p.2) h, ur_E_1 (a := p.1) (b := p.2) h, ur_C_s (a := p.1) (b := p.2) h]
    refine Or.inr ⟨p.1, rfl, ?_, ur_G_ex q.1 q.2⟩
    rw [ur_ex_len q.2]; exact congrArg nI (by omega)
theorem ur_R_X {r k : Nat} {T : List Int32} {L : Nat → Option (List Int32)} {m l fa ta : Nat → Int32} (h : ur_M 128 L m l) (hr : r < 11) (hL : L r = some T) (hB : ur_BX r T fa ta) (hk : k < 8) :
    ur_R 1408 m (fa (r * 8 + k)) (ta (r * 8 + k)) (ur_C T k) := by
  rw [(hB k hk).1, (hB k hk).2]
  cases hz : ur_B T k with
  | none => rw [ur_fX_n hz, ur_tX_n hz, ur_C_n hz]; exact Or.inl ⟨rfl, by decide⟩
  | some p =>
    have q := ur_B_b (a := p.1) (b := p.2) hz
    rw [ur_fX_s (a := p.1) (b := p.2) hz, ur_tX_s (a := p.1) (b := p.2) hz, ur_C_s (a := p.1) (b := p.2) hz]
    refine Or.inr ⟨r * 128 + p.1, rfl, ?_, ur_M_G h hr hL (ur_G_ex q.1 q.2)⟩
    rw [ur_ex_len q.2]; exact congrArg nI (by omega)
def ur_hk (c : Int32) : Bool := !decide (ur_hx c < 0)
def ur_h2 : List Int32 → Bool
  | x :: y :: _ => ur_hk x && ur_hk y
  | _ => false
theorem ur_h2_lt : ∀ (l : List Int32), l.length < 2 → ur_h2 l = false
  | [], _ => rfl
  | [_], _ => rfl
  | _ :: _ :: l, h => absurd h (by simp only [List.length_cons]; omega)
theorem ur_h2_ge : ∀ (l : List Int32), 2 ≤ l.length → ur_h2 l = (ur_hk (ur_at l 0) && ur_hk (ur_at l 1))
  | [], h => absurd h (by simp)
  | [_], h => absurd h (by simp)
  | _ :: _ :: _, _ => rfl
/-- allowed characters and whole escapes -/
def ur_gC (lv : Nat) : List Int32 → Bool
  | [] => true
  | c :: l => (if c = 37 then ur_h2 l else ur_al lv c) && ur_gC lv l
def ur_sc3 (c : Int32) : Bool := if c = 43 then true else if c = 45 then true else if c = 46 then true else false
def ur_sc (c : Int32) : Bool := ur_isL c || (ur_isD c || ur_sc3 c)
def ur_gS2 : List Int32 → Bool
  | [] => true
  | c :: l => ur_sc c && ur_gS2 l
def ur_gS : List Int32 → Bool
  | [] => false
  | c :: l => ur_isL c && ur_gS2 l
def ur_oI : Option Nat → Int32
  | none => -1
  | some v => nI v
def ur_dv (c : Int32) : Nat := (c - 48).toNatClampNeg
/-- the decimal value -/
def ur_pv (n : Nat) : List Int32 → Option Nat
  | [] => some n
  | c :: l => if ur_isD c = true then (if n * 10 + ur_dv c ≤ 65535 then ur_pv (n * 10 + ur_dv c) l else none) else none
theorem ur_dv_e {c : Int32} (h : ur_isD c = true) : ur_dv c ≤ 9 ∧ c = nI (48 + ur_dv c) := by
  unfold ur_isD at h
  split at h
  · cases h
  rename_i h1
  split at h
  · cases h
  rename_i h2
  obtain ⟨j, hj, rfl⟩ := nI_of (x := c) (fun z => h1 (Int32.lt_trans z (by decide)))
  rw [show (48 : Int32) = nI 48 from rfl, nI_ltI hj (by decide)] at h1
  rw [show (57 : Int32) = nI 57 from rfl, nI_ltI (by decide) hj] at h2
  have e : ur_dv (nI j) = j - 48 := by
    unfold ur_dv
    rw [show (48 : Int32) = nI 48 from rfl, pk_sub (by omega), nI_clamp (by omega)]
  rw [e]
  exact ⟨by omega, congrArg nI (by omega)⟩
theorem ur_dv_s {c : Int32} (h : ur_isD c = true) : c - 48 = nI (ur_dv c) := by
  obtain ⟨h1, h2⟩ := ur_dv_e h
  have e : c - 48 = nI (48 + ur_dv c) - nI 48 := by rw [← h2]; rfl
  rw [e, pk_sub (by omega)]; exact congrArg nI (by omega)
/-- the number of groups of a list -/
def ur_cl' (g d : Nat) : List Int32 → Option Nat
  | [] => if d = 0 then none else some g
  | c :: l => if c = 58 then (if d = 0 then none else ur_cl' (g + 1) 0 l) else if 4 < d + 1 then none else if ur_hk c = true then ur_cl' g (d + 1) l else none
def ur_cN : List Int32 → Option Nat
  | [] => some 0
  | c :: l => ur_cl' 1 0 (c :: l)
/-- the first place of two colons -/
def ur_gp : List Int32 → Option Nat
  | c :: d :: l => if c = 58 ∧ d = 58 then some 0 else (ur_gp (d :: l)).map (· + 1)
  | _ => none
theorem ur_gp_lt : ∀ (l : List Int32) (j : Nat), ur_gp l = some j → j + 2 ≤ l.length
  | [], j, h => by cases h
  | [_], j, h => by cases h
  | c :: d :: l, j, h => by
    unfold ur_gp at h
    split at h
    · cases h; simp
    · cases hz : ur_gp (d :: l) with
      | none => rw [hz] at h; cases h
      | some i =>
        rw [hz] at h
        have := ur_gp_lt (d :: l) i hz
        simp only [Option.map_some, Option.some.injEq] at h
        simp only [List.length_cons] at this ⊢
        omega
def ur_le7 : Option Nat → Option Nat → Bool
  | some a, some b => decide (a + b ≤ 7)
  | _, _ => false
/-- an address -/
def ur_ad (l : List Int32) : Bool := match ur_gp l with
  | none => decide (ur_cN l = some 8)
  | some g => ur_le7 (ur_cN (l.take g)) (ur_cN (l.drop (g + 2)))
def ur_fw (i : Nat) (wd : Nat → Int32) : List Int32 → (Nat → Int32)
  | [] => wd
  | c :: l => if c = 58 then ur_fw (i + 1) wd l else ur_fw i (if i < 8 then upd wd i (wd i * 16 + ur_hx c) else wd) l
/-- the words that the component leaves -/
def ur_wd (l : List Int32) (z : Nat → Int32) : Nat → Int32 := match ur_gp l with
  | none => ur_fw 0 z l
  | some g => ur_fw (8 - (ur_cN (l.drop (g + 2))).getD 0) (ur_fw 0 z (l.take g)) (l.drop (g + 2))
def ur_gH (T : List Int32) : Bool := !ur_bro T && (if ur_at T (ur_h T) = 91 then ur_ad (ur_ex T (ur_h T + 1) (ur_p T - 1)) else ur_gC 0 (ur_C T 2))
def ur_g0 (T : List Int32) : Bool := !(ur_B T 0).isSome || ur_gS (ur_C T 0)
def ur_g1 (T : List Int32) : Bool := ur_gC 1 (ur_C T 1)
def ur_g2 (T : List Int32) : Bool := !(ur_B T 2).isSome || ur_gH T
def ur_g3 (T : List Int32) : Bool := !(ur_B T 3).isSome || (ur_pv 0 (ur_C T 3)).isSome
def ur_g4 (T : List Int32) : Bool := ur_gC 2 (ur_C T 4)
def ur_g5 (T : List Int32) : Bool := ur_gC 3 (ur_C T 5)
def ur_g6 (T : List Int32) : Bool := ur_gC 3 (ur_C T 6)
/-- the judgement: 0, or the first bad component's answer -/
def ur_J (T : List Int32) : Int32 := if ur_g0 T = false then 4 else if ur_g1 T = false then 5 else if ur_g2 T = false then 6 else if ur_g3 T = false then 7 else if ur_g4 T = false then 8 else if ur_g5 T = false then 9 else if ur_g6 T = false then 10 else 0
/-- a good text -/
def ur_good (T : List Int32) : Prop := ur_g0 T = true ∧ ur_g1 T = true ∧ ur_g2 T = true ∧ ur_g3 T = true ∧ ur_g4 T = true ∧ ur_g5 T = true ∧ ur_g6 T = true
theorem ur_J_good {T : List Int32} : ur_J T = 0 ↔ ur_good T := by
  unfold ur_J ur_good
  cases ur_g0 T <;> cases ur_g1 T <;> cases ur_g2 T <;> cases ur_g3 T <;> cases ur_g4 T <;> cases ur_g5 T <;> cases ur_g6 T <;> simp
/-! the reference's list -/
def ur_yl (kI : Int32) (g d : Nat) (v : Int32) : List Int32 → Int32
  | [] => if d < 1 then -1 else if d ≤ 4 then (if nI g = kI then v else nI (g + 1)) else -1
  | c :: l => if c = 58 then (if d < 1 then -1 else if d ≤ 4 then (if nI g = kI then v else ur_yl kI (g + 1) 0 0 l) else -1) else if 0 ≤ ur_hx c then ur_yl kI g (d + 1) (v * 16 + ur_hx c) l else -1
def ur_yL (kI : Int32) : List Int32 → Int32
  | [] => 0
  | c :: l => ur_yl kI 0 0 0 (c :: l)
theorem ur_hk_t {c : Int32} : ur_hk c = true ↔ 0 ≤ ur_hx c := by
  unfold ur_hk
  rw [Bool.not_eq_true', decide_eq_false_iff_not]
  exact Int32.not_lt
theorem ur_m1g {g : Nat} (h : g < 2 ^ 31) : ¬ nI g = -1 := fun z => by
  have := nI_pos h
  rw [z] at this
  exact this (by decide)
theorem ur_yl_5 (kI : Int32) : ∀ (l : List Int32) (g d : Nat) (v : Int32), 4 < d → ur_yl kI g d v l = -1
  | [], g, d, v, h => by rw [ur_yl, if_neg (by omega), if_neg (by omega)]
  | c :: l, g, d, v, h => by
    rw [ur_yl]
    split
    · rw [if_neg (by omega), if_neg (by omega)]
    · split
      · exact ur_yl_5 kI l g (d + 1) _ (by omega)
      · rfl
theorem ur_yl_c : ∀ (l : List Int32) (g d : Nat) (v : Int32), d ≤ 4 → g + l.length < 1000 → ur_yl (-1) g d v l = ur_oI (ur_cl' (g + 1) d l)
  | [], g, d, v, h, hg => by
    rw [ur_yl, ur_cl', if_neg (ur_m1g (by omega))]
    by_cases z : d = 0
    · rw [if_pos (by omega), if_pos z]; rfl
    · rw [if_neg (by omega), if_pos h, if_neg z]; rfl
  | c :: l, g, d, v, h, hg => by
    rw [List.length_cons] at hg
    rw [ur_yl, ur_cl', if_neg (ur_m1g (by omega))]
    by_cases z : c = 58
    · rw [if_pos z, if_pos z]
      by_cases y : d = 0
      · rw [if_pos (by omega), if_pos y]; rfl
      · rw [if_neg (by omega), if_pos h, if_neg y]
        exact ur_yl_c l (g + 1) 0 0 (by omega) (by omega)
    · rw [if_neg z, if_neg z]
      by_cases y : 4 < d + 1
      · rw [if_pos y]
        split
        · exact ur_yl_5 _ l g (d + 1) _ y
        · rfl
      · rw [if_neg y]
        by_cases x : ur_hk c = true
        · rw [if_pos x, if_pos (ur_hk_t.mp x)]
          exact ur_yl_c l g (d + 1) _ (by omega) (by omega)
        · rw [if_neg x, if_neg (fun w => x (ur_hk_t.mpr w))]; rfl
theorem ur_yL_c (l : List Int32) (h : l.length < 900) : ur_yL (-1) l = ur_oI (ur_cN l) := by
  cases l with
  | nil => rfl
  | cons c l => exact ur_yl_c (c :: l) 0 0 0 (by omega) (by omega)
/-! the words are the reference's values -/
def ur_n58 : List Int32 → Nat
  | [] => 0
  | c :: l => (if c = 58 then 1 else 0) + ur_n58 l
theorem ur_cl'_n : ∀ (l : List Int32) (g d v : Nat), ur_cl' g d l = some v → v = g + ur_n58 l
  | [], g, d, v, h => by
    rw [ur_cl'] at h
    split at h
    · cases h
    · cases h; rfl
  | c :: l, g, d, v, h => by
    rw [ur_cl'] at h
    rw [ur_n58]
    split at h
    · rename_i z
      rw [if_pos z]
      split at h
      · cases h
      · have := ur_cl'_n l _ _ _ h; omega
    · rename_i z
      rw [if_neg z]
      split at h
      · cases h
      · split at h
        · have := ur_cl'_n l _ _ _ h; omega
        · cases h
theorem ur_fw_o : ∀ (l : List Int32) (i : Nat) (wd : Nat → Int32) (j : Nat), (j < i ∨ i + ur_n58 l < j) → ur_fw i wd l j = wd j
  | [], i, wd, j, h => rfl
  | c :: l, i, wd, j, h => by
    rw [ur_fw]
    rw [ur_n58] at h
    split
    · rename_i z
      rw [if_pos z] at h
      exact ur_fw_o l (i + 1) wd j (by omega)
    · rename_i z
      rw [if_neg z] at h
      rw [ur_fw_o l i _ j (by omega)]
      split
      · exact pk_un (by omega)
      · rfl
theorem ur_fw_v : ∀ (l : List Int32) (g d i t : Nat) (v : Int32) (wd : Nat → Int32) (n : Nat), ur_cl' (g + 1) d l = some n → d ≤ 4 → g + l.length < 1000 → i ≤ ur_n58 l → t + i < 8 → wd t = v → (∀ j, t < j → j < 8 → wd j = 0) →
    ur_fw t wd l (t + i) = ur_yl (nI (g + i)) g d v l
  | [], g, d, i, t, v, wd, n, h, hd, hg, hi, ht, hv, hz => by
    rw [ur_cl'] at h
    rw [ur_n58] at hi
    have i0 : i = 0 := by omega
    subst i0
    split at h
    · cases h
    · rename_i y
      rw [ur_yl, if_neg (by omega), if_pos hd, if_pos (show nI g = nI (g + 0) from rfl)]; exact hv
  | c :: l, g, d, i, t, v, wd, n, h, hd, hg, hi, ht, hv, hz => by
    rw [List.length_cons] at hg
    rw [ur_cl'] at h
    rw [ur_n58] at hi
    rw [ur_fw, ur_yl]
    by_cases z : c = 58
    · rw [if_pos z] at h hi
      rw [if_pos z, if_pos z]
      split at h
      · cases h
      · rename_i y
        rw [if_neg (by omega), if_pos hd]
        by_cases x : i = 0
        · subst x
          rw [if_pos (show nI g = nI (g + 0) from rfl), ur_fw_o l (t + 1) wd _ (by omega)]; exact hv
        · rw [if_neg (fun w => x (by have := (nI_eq (by omega) (by omega)).mp w; omega))]
          have := ur_fw_v l (g + 1) 0 (i - 1) (t + 1) 0 wd n h (by omega) (by omega) (by omega) (by omega) (hz _ (by omega) (by omega)) (fun j hj hj8 => hz j (by omega) hj8)
          rw [show t + 1 + (i - 1) = t + i by omega, show g + 1 + (i - 1) = g + i by omega] at this
          exact this
    · rw [if_neg z] at h hi
      rw [if_neg z, if_neg z]
      split at h
      · cases h
      · split at h
        · rename_i x
          rw [if_pos (ur_hk_t.mp x), if_pos (by omega)]
          refine ur_fw_v l g (d + 1) i t _ _ n h (by omega) (by omega) (by omega) ht ?_ (fun j hj hj8 => ?_)
          · rw [pk_us, hv]
          · rw [pk_un (by omega)]; exact hz j hj hj8
        · cases h
end
section
/-! the component's check -/
section
variable {bh lim cnt : Int32} {m l fa ta wa : Nat → Int32} {L : Nat → Option (List Int32)} {T : List Int32}
theorem xl_gC {post : Int32 → Prop} {lv b : Nat} (hl : lv ≤ 3) : ∀ (x : List Int32) (a : Nat), ur_G 1408 m a x → a + x.length = b → post (ur_b (ur_gC lv x)) →
    wX_goodChars_3 post (nI b) (nI lv) 128 6 7 8 9 10 bh lim cnt m l fa ta wa (x.length + 1) (nI a)
  | [], a, hG, hb, k => br_t (nI_le (by simp at hb; omega) (by have := hG.1; omega)) k
  | c :: x, a, hG, hb, k => by
    have hN := hG.1
    obtain ⟨h1, h2, h3⟩ := ur_G_cons hG
    rw [List.length_cons] at hb hN
    refine br_f (nI_ge (by omega) (by omega)) ⟨vp_in_nI h1 (by decide), nm_r (e' := c) (by rw [nI_clamp (by omega)]; exact h2) ?_⟩
    unfold ur_gC at k
    have ih : post (ur_b (ur_gC lv x)) → wX_goodChars_3 post (nI b) (nI lv) 128 6 7 8 9 10 bh lim cnt m l fa ta wa (x.length + 1) (nI (a + 1)) := xl_gC hl x (a + 1) h3 (by omega)
    by_cases c37 : c = 37
    · rw [if_pos c37] at k
      refine br_t c37 ?_
      rw [ur_p2, nI_1]
      refine pk_le b (a + 2) (fun z => ?_) (fun z => ⟨vp_in_nI (by omega) (by decide), ?_⟩)
      · rw [ur_h2_lt x (by omega)] at k; exact k
      · rw [ur_h2_ge x (by omega)] at k
        have e0 : m (a + 1) = ur_at x 0 := h3.2 0 (by omega)
        have e1 : m (a + 2) = ur_at x 1 := h3.2 1 (by omega)
        rw [nI_clamp (show a + 1 < 2 ^ 31 by omega), nI_clamp (show a + 2 < 2 ^ 31 by omega), e0, e1]
        refine xa_hx ?_
        by_cases y : ur_hx (ur_at x 0) < 0
        · have : ur_hk (ur_at x 0) = false := by unfold ur_hk; rw [decide_eq_true y]; rfl
          rw [this] at k
          exact br_t y k
        · have hy : ur_hk (ur_at x 0) = true := by unfold ur_hk; rw [decide_eq_false y]; rfl
          refine br_f y ⟨vp_in_nI (by omega) (by decide), xa_hx ?_⟩
          by_cases w : 0 ≤ ur_hx (ur_at x 1)
          · rw [hy, ur_hk_t.mpr w] at k
            exact br_t w (nm_e (ih k))
          · have : ur_hk (ur_at x 1) = false := by
              cases q : ur_hk (ur_at x 1)
              · rfl
              · exact absurd (ur_hk_t.mp q) w
            rw [this, Bool.and_false] at k
            exact br_f w k
    · rw [if_neg c37] at k
      refine br_f c37 (xa_al hl (ur_br (fun z => ?_) (fun z => ?_)))
      · rw [z] at k; exact k
      · rw [z] at k; exact nm_r (nI_1 _) (ih k)
theorem xa_gC {post : Int32 → Prop} {lv : Nat} {x y : Int32} {w : List Int32} (hl : lv ≤ 3) (hR : ur_R 1408 m x y w) (k : post (ur_b (ur_gC lv w))) : wpX_goodChars post (ur_x bh lim cnt m l fa ta wa) x y (nI lv) := by
  rcases hR with ⟨rfl, h⟩ | ⟨a, rfl, rfl, hG⟩
  · exact ⟨1, br_t h k⟩
  · exact ⟨_, xl_gC hl w a hG rfl k⟩
theorem xl_gS {post : Int32 → Prop} {b : Nat} : ∀ (x : List Int32) (a : Nat), ur_G 1408 m a x → a + x.length = b → post (ur_b (ur_gS2 x)) →
    wX_goodScheme_24 post (nI b) 128 6 7 8 9 10 bh lim cnt m l fa ta wa (x.length + 1) (nI a)
  | [], a, hG, hb, k => br_t (nI_le (by simp at hb; omega) (by have := hG.1; omega)) k
  | c :: x, a, hG, hb, k => by
    have hN := hG.1
    obtain ⟨h1, h2, h3⟩ := ur_G_cons hG
    rw [List.length_cons] at hb hN
    have ih : post (ur_b (ur_gS2 x)) → wX_goodScheme_24 post (nI b) 128 6 7 8 9 10 bh lim cnt m l fa ta wa (x.length + 1) (nI (a + 1)) := xl_gS x (a + 1) h3 (by omega)
    refine br_f (nI_ge (by omega) (by omega)) ⟨vp_in_nI h1 (by decide), nm_r (e' := c) (by rw [nI_clamp (by omega)]; exact h2) ?_⟩
    unfold ur_gS2 ur_sc at k
    refine xa_isL (ur_br (fun z => ?_) (fun z => ?_))
    · rw [z, Bool.false_or] at k
      refine xa_isD (ur_br (fun z => ?_) (fun z => ?_))
      · rw [z, Bool.false_or] at k
        unfold ur_sc3 at k
        by_cases c1 : c = 43
        · rw [if_pos c1] at k; exact br_t c1 (nm_r (nI_1 _) (ih k))
        rw [if_neg c1] at k; refine br_f c1 ?_
        by_cases c2 : c = 45
        · rw [if_pos c2] at k; exact br_t c2 (nm_r (nI_1 _) (ih k))
        rw [if_neg c2] at k; refine br_f c2 ?_
        by_cases c3 : c = 46
        · rw [if_pos c3] at k; exact br_t c3 (nm_r (nI_1 _) (ih k))
        rw [if_neg c3] at k; exact br_f c3 k
      · rw [z] at k; exact nm_r (nI_1 _) (ih k)
    · rw [z] at k; exact nm_r (nI_1 _) (ih k)
theorem xa_gS {post : Int32 → Prop} {x y : Int32} {w : List Int32} (hR : ur_R 1408 m x y w) (k : post (ur_b (ur_gS w))) : wpX_goodScheme post (ur_x bh lim cnt m l fa ta wa) x y := by
  rcases hR with ⟨rfl, h⟩ | ⟨a, rfl, rfl, hG⟩
  · exact br_t h k
  · have hN := hG.1
    cases w with
    | nil => exact br_t (nI_le (by simp) (by omega)) k
    | cons c w =>
      obtain ⟨h1, h2, h3⟩ := ur_G_cons hG
      rw [List.length_cons] at hN
      rw [show ur_gS (c :: w) = (ur_isL c && ur_gS2 w) from rfl] at k
      unfold wpX_goodScheme
      dsimp only
      rw [nI_clamp (show a < 2 ^ 31 by omega), h2]
      refine br_f (nI_ge (by rw [List.length_cons]; omega) (by rw [List.length_cons]; omega)) ⟨vp_in_nI h1 (by decide), xa_isL (ur_br (fun z => ?_) (fun z => ?_))⟩
      · rw [z] at k; exact k
      · rw [z] at k; exact nm_r (nI_1 _) ⟨_, xl_gS w (a + 1) h3 (by rw [List.length_cons]; omega) k⟩
theorem xl_pv {post : Int32 → Prop} {b : Nat} : ∀ (x : List Int32) (a n : Nat), n ≤ 65535 → ur_G 1408 m a x → a + x.length = b → post (ur_oI (ur_pv n x)) →
    wX_portNumber_5 post (nI b) 128 6 7 8 9 10 bh lim cnt m l fa ta wa (x.length + 1) (nI n) (nI a)
  | [], a, n, hn, hG, hb, k => br_t (nI_le (by simp at hb; omega) (by have := hG.1; omega)) k
  | c :: x, a, n, hn, hG, hb, k => by
    have hN := hG.1
    obtain ⟨h1, h2, h3⟩ := ur_G_cons hG
    rw [List.length_cons] at hb hN
    refine br_f (nI_ge (by omega) (by omega)) ⟨vp_in_nI h1 (by decide), nm_r (e' := c) (by rw [nI_clamp (by omega)]; exact h2) ?_⟩
    unfold ur_pv at k
    refine xa_isD (ur_br (fun z => ?_) (fun z => ?_))
    · rw [if_neg (by rw [z]; decide)] at k; exact k
    · rw [if_pos z] at k
      have := (ur_dv_e z).1
      refine nm_r (e' := nI (n * 10 + ur_dv c)) (by rw [ur_dv_s z, ← nI_add, ← pk_mul]; rfl) ?_
      refine pk_le (n * 10 + ur_dv c) 65535 (fun y => ?_) (fun y => ?_)
      · rw [if_pos y] at k
        exact nm_r (nI_1 _) (xl_pv x (a + 1) _ y h3 (by omega) k)
      · rw [if_neg (by omega)] at k; exact k
theorem xa_pv {post : Int32 → Prop} {x y : Int32} {w : List Int32} (hR : ur_R 1408 m x y w) (k : post (ur_oI (ur_pv 0 w))) : wpX_portNumber post (ur_x bh lim cnt m l fa ta wa) x y := by
  rcases hR with ⟨rfl, h⟩ | ⟨a, rfl, rfl, hG⟩
  · exact ⟨1, br_t h k⟩
  · exact ⟨_, xl_pv w a 0 (by decide) hG rfl k⟩
theorem xl_cg {post : Int32 → Prop} {b : Nat} : ∀ (x : List Int32) (a g d : Nat), d ≤ 4 → g + x.length < 2000 → ur_G 1408 m a x → a + x.length = b → post (ur_oI (ur_cl' g d x)) →
    wX_countGroups_15 post (nI b) 128 6 7 8 9 10 bh lim cnt m l fa ta wa (x.length + 1) (nI g) (nI d) (nI a)
  | [], a, g, d, hd, hg, hG, hb, k => by
    refine br_t (nI_le (by simp at hb; omega) (by have := hG.1; omega)) ?_
    rw [ur_cl'] at k
    refine pk_eq d 0 (fun z => ?_) (fun z => ?_)
    · rw [if_pos z] at k; exact k
    · rw [if_neg z] at k; exact k
  | c :: x, a, g, d, hd, hg, hG, hb, k => by
    have hN := hG.1
    obtain ⟨h1, h2, h3⟩ := ur_G_cons hG
    rw [List.length_cons] at hb hN hg
    refine br_f (nI_ge (by omega) (by omega)) ⟨vp_in_nI h1 (by decide), nm_r (e' := c) (by rw [nI_clamp (by omega)]; exact h2) ?_⟩
    rw [ur_cl'] at k
    by_cases z : c = 58
    · rw [if_pos z] at k
      refine br_t z (pk_eq d 0 (fun y => ?_) (fun y => ?_))
      · rw [if_pos y] at k; exact k
      · rw [if_neg y] at k
        exact nm_r (nI_1 _) (nm_r (nI_1 _) (xl_cg x (a + 1) (g + 1) 0 (by omega) (by omega) h3 (by omega) k))
    · rw [if_neg z] at k
      refine br_f z (nm_r (nI_1 _) (pk_lt 4 (d + 1) (fun y => ?_) (fun y => xa_hx ?_)))
      · rw [if_pos y] at k; exact k
      · rw [if_neg (by omega)] at k
        by_cases w : 0 ≤ ur_hx c
        · rw [if_pos (ur_hk_t.mpr w)] at k
          exact br_t w (nm_r (nI_1 _) (xl_cg x (a + 1) g (d + 1) (by omega) (by omega) h3 (by omega) k))
        · rw [if_neg (fun q => w (ur_hk_t.mp q))] at k
          exact br_f w k
theorem xa_cg {post : Int32 → Prop} {a b : Nat} {w : List Int32} (hG : ur_G 1408 m a w) (hb : a + w.length = b) (k : post (ur_oI (ur_cN w))) : wpX_countGroups post (ur_x bh lim cnt m l fa ta wa) (nI a) (nI b) := by
  have hN := hG.1
  cases w with
  | nil => exact br_f (nI_nlt (by simp at hb; omega) (by omega)) k
  | cons c w => exact br_t (nI_lt (by rw [List.length_cons] at hb; omega) (by omega)) ⟨_, xl_cg (c :: w) a 1 0 (by omega) (by omega) hG hb k⟩
theorem xl_fw {post : SX → Prop} {b : Nat} : ∀ (x : List Int32) (a i : Nat) (wa : Nat → Int32), i + x.length < 2000 → ur_G 1408 m a x → a + x.length = b → post (ur_x bh lim cnt m l fa ta (ur_fw i wa x)) →
    wX_fillWords_6 post (nI b) 128 6 7 8 9 10 bh lim cnt (x.length + 1) (nI i) (nI a) m l fa ta wa
  | [], a, i, wa, hi, hG, hb, k => br_t (nI_le (by simp at hb; omega) (by have := hG.1; omega)) k
  | c :: x, a, i, wa, hi, hG, hb, k => by
    have hN := hG.1
    obtain ⟨h1, h2, h3⟩ := ur_G_cons hG
    rw [List.length_cons] at hb hN hi
    refine br_f (nI_ge (by omega) (by omega)) ⟨vp_in_nI h1 (by decide), nm_r (e' := c) (by rw [nI_clamp (by omega)]; exact h2) ?_⟩
    rw [ur_fw] at k
    by_cases z : c = 58
    · rw [if_pos z] at k
      exact br_t z (nm_r (nI_1 _) (nm_r (nI_1 _) (xl_fw x (a + 1) (i + 1) wa (by omega) h3 (by omega) k)))
    · rw [if_neg z] at k
      refine br_f z (br_f (nI_pos (by omega)) (pk_le 8 i (fun y => ?_) (fun y => ?_)))
      · rw [if_neg (by omega)] at k
        exact nm_r (nI_1 _) (xl_fw x (a + 1) i wa (by omega) h3 (by omega) k)
      · rw [if_pos (by omega)] at k
        have hv : vp_in (nI i) 8 := vp_in_nI (by omega) (by decide)
        refine ⟨hv, xa_hx ⟨hv, ?_⟩⟩
        rw [nI_clamp (show i < 2 ^ 31 by omega)]
        exact nm_e (nm_r (nI_1 _) (xl_fw x (a + 1) i _ (by omega) h3 (by omega) k))
theorem xa_fw {post : SX → Prop} {a b i : Nat} {w : List Int32} (hi : i < 100) (hG : ur_G 1408 m a w) (hb : a + w.length = b) (k : post (ur_x bh lim cnt m l fa ta (ur_fw i wa w))) : wpX_fillWords post (ur_x bh lim cnt m l fa ta wa) (nI a) (nI b) (nI i) :=
  ⟨_, xl_fw w a i wa (by have := hG.1; omega) hG hb k⟩
def ur_gpI (a : Nat) : Option Nat → Int32
  | none => -1
  | some j => nI (a + j)
theorem ur_cN_le : ∀ {w : List Int32} {n : Nat}, ur_cN w = some n → n ≤ w.length
  | [], n, h => by cases h; exact Nat.le_refl _
  | c :: w, n, h => by
    have h' : ur_cl' 1 0 (c :: w) = some n := h
    have e := ur_cl'_n _ _ _ _ h'
    have q : ∀ (x : List Int32), ur_n58 x ≤ x.length := by
      intro x
      induction x with
      | nil => exact Nat.le_refl _
      | cons d x ih => rw [ur_n58, List.length_cons]; split <;> omega
    have q1 := q w
    by_cases z : c = 58
    · rw [ur_cl', if_pos z, if_pos rfl] at h'; cases h'
    · rw [ur_n58, if_neg z] at e; rw [List.length_cons]; omega
theorem xl_r55 {post : Int32 → SX → Prop} {a b : Nat} {w : List Int32} (hG : ur_G 1408 m a w) (hb : a + w.length = b)
    (k : ∀ wa', (ur_ad w = true → ∃ z : Nat → Int32, (∀ j, j < 8 → z j = 0) ∧ wa' = ur_wd w z) → post (ur_b (ur_ad w)) (ur_x bh lim cnt m l fa ta wa')) :
    ∀ (d i : Nat) (wa : Nat → Int32), i + d = 8 → (∀ j, j < i → wa j = 0) → wX_readAddress_55 post (nI a) (nI b) (ur_gpI a (ur_gp w)) 128 6 7 8 9 10 bh lim cnt (d + 1) (nI i) m l fa ta wa := by
  have hN := hG.1
  intro d
  induction d with
  | zero =>
    intro i wa hi hz
    have e8 : i = 8 := by omega
    subst e8
    refine br_t (by decide) ?_
    cases hg : ur_gp w with
    | none =>
      have ea : ur_ad w = decide (ur_cN w = some 8) := by unfold ur_ad; rw [hg]
      refine br_f ur_m1le (xa_cg hG hb ?_)
      by_cases y : ur_cN w = some 8
      · rw [y]
        refine br_t rfl (xa_fw (by decide) hG hb ?_)
        have := k (ur_fw 0 wa w) (fun _ => ⟨wa, hz, by unfold ur_wd; rw [hg]⟩)
        rw [ea, decide_eq_true y] at this
        exact this
      · have hne : ¬ ur_oI (ur_cN w) = 8 := by
          cases hc : ur_cN w with
          | none => decide
          | some n =>
            intro q
            have := ur_cN_le hc
            have q' : n = 8 := (nI_eq (by omega) (by decide)).mp q
            rw [q'] at hc; exact y hc
        refine br_f hne ?_
        have := k wa (fun q => by rw [ea, decide_eq_false y] at q; cases q)
        rw [ea, decide_eq_false y] at this
        exact this
    | some g =>
      have hg2 := ur_gp_lt w g hg
      have ea : ur_ad w = ur_le7 (ur_cN (w.take g)) (ur_cN (w.drop (g + 2))) := by unfold ur_ad; rw [hg]
      have G1 := ur_G_take hG g
      have G2 := ur_G_drop hG (k := g + 2) (by omega)
      have l1 : a + (w.take g).length = a + g := by rw [List.length_take]; omega
      have l2 : a + (g + 2) + (w.drop (g + 2)).length = b := by rw [List.length_drop]; omega
      rw [show ur_gpI a (some g) = nI (a + g) from rfl]
      refine br_t (nI_pos' (by omega)) (xa_cg G1 l1 ?_)
      rw [ur_p2]
      refine xa_cg (a := a + g + 2) (by rw [Nat.add_assoc]; exact G2) (by omega) ?_
      have bad : ur_ad w = false → post 0 (ur_x bh lim cnt m l fa ta wa) := by
        intro q
        have := k wa (fun q2 => by rw [q] at q2; cases q2)
        rw [q] at this; exact this
      cases c1 : ur_cN (w.take g) with
      | none =>
        rw [c1] at ea
        exact br_t ur_m1lt (bad ea)
      | some n1 =>
        have b1 := ur_cN_le c1
        rw [List.length_take] at b1
        refine br_f (nI_pos (by omega)) ?_
        cases c2 : ur_cN (w.drop (g + 2)) with
        | none =>
          rw [c1, c2] at ea
          exact br_t ur_m1lt (bad ea)
        | some n2 =>
          have b2 := ur_cN_le c2
          rw [List.length_drop] at b2
          rw [c1, c2] at ea
          refine br_f (nI_pos (by omega)) ?_
          show ((nI n1 + nI n2 ≤ 7 → _) ∧ (¬ nI n1 + nI n2 ≤ 7 → _))
          rw [nI_add]
          refine pk_le (n1 + n2) 7 (fun y => ?_) (fun y => ?_)
          · refine xa_fw (i := 0) (by decide) G1 l1 ?_
            have e9 : (8 : Int32) - ur_oI (some n2) = nI (8 - n2) := pk_sub (a := 8) (by omega)
            rw [e9]
            refine xa_fw (i := 8 - n2) (a := a + g + 2) (by omega) (by rw [Nat.add_assoc]; exact G2) (by omega) ?_
            have := k (ur_fw (8 - n2) (ur_fw 0 wa (w.take g)) (w.drop (g + 2))) (fun _ => ⟨wa, hz, by unfold ur_wd; rw [hg]; dsimp only; rw [c2]; rfl⟩)
            rw [ea] at this
            have e7 : ur_le7 (some n1) (some n2) = true := decide_eq_true y
            rw [e7] at this
            exact this
          · have e7 : ur_le7 (some n1) (some n2) = false := decide_eq_false (by omega)
            rw [e7] at ea
            exact bad ea
  | succ d ih =>
    intro i wa hi hz
    refine br_f (nI_ge (b := 8) (by omega) (by decide)) ⟨vp_in_nI (by omega) (by decide), ?_⟩
    rw [nI_clamp (show i < 2 ^ 31 by omega)]
    refine nm_e (nm_r (nI_1 _) (ih (i + 1) _ (by omega) (fun j hj => ?_)))
    by_cases e : j = i
    · subst e; exact pk_us
    · rw [pk_un e]; exact hz j (by omega)
theorem xl_r5 {post : Int32 → SX → Prop} {A b : Nat} : ∀ (x : List Int32) (a : Nat), ur_G 1408 m a x → a + x.length = b →
    (∃ n, wX_readAddress_55 post (nI A) (nI b) (ur_gpI a (ur_gp x)) 128 6 7 8 9 10 bh lim cnt n 0 m l fa ta wa) →
    wX_readAddress_5 post (nI A) (nI b) 128 6 7 8 9 10 bh lim cnt m l fa ta wa (x.length + 2) (-1) (nI a)
  | [], a, hG, hb, k => by
    have hN := hG.1
    simp only [List.length_nil, Nat.add_zero] at hb hN
    rw [wX_readAddress_5]
    dsimp only
    rw [nI_1]
    exact br_t (nI_le (by omega) (by omega)) k
  | [c], a, hG, hb, k => by
    have hN := hG.1
    simp only [List.length_cons, List.length_nil] at hb hN
    rw [wX_readAddress_5]
    dsimp only
    rw [nI_1]
    exact br_t (nI_le (by omega) (by omega)) k
  | c :: d :: x, a, hG, hb, k => by
    have hN := hG.1
    obtain ⟨h1, h2, h3⟩ := ur_G_cons hG
    obtain ⟨h4, h5, h6⟩ := ur_G_cons h3
    simp only [List.length_cons] at hb hN
    have ih := xl_r5 (post := post) (A := A) (b := b) (d :: x) (a + 1) h3 (by simp only [List.length_cons]; omega)
    rw [show (c :: d :: x).length + 2 = ((d :: x).length + 2) + 1 from rfl, wX_readAddress_5]
    dsimp only
    rw [nI_1]
    refine br_f (nI_ge (by omega) (by omega)) (br_f ur_m1le ⟨vp_in_nI h1 (by decide), ?_⟩)
    rw [nI_clamp (show a < 2 ^ 31 by omega), nI_clamp (show a + 1 < 2 ^ 31 by omega), h2, h5]
    have nx : ¬ (c = 58 ∧ d = 58) → ∃ n, wX_readAddress_55 post (nI A) (nI b) (ur_gpI (a + 1) (ur_gp (d :: x))) 128 6 7 8 9 10 bh lim cnt n 0 m l fa ta wa := by
      intro q
      have e : ur_gpI a (ur_gp (c :: d :: x)) = ur_gpI (a + 1) (ur_gp (d :: x)) := by
        rw [ur_gp, if_neg q]
        cases ur_gp (d :: x) with
        | none => rfl
        | some j => exact congrArg nI (show a + (j + 1) = a + 1 + j by omega)
      rw [e] at k; exact k
    by_cases z : c = 58
    · refine br_t z ⟨vp_in_nI (by omega) (by decide), ?_⟩
      by_cases y : d = 58
      · refine br_t y (nm_e ?_)
        have e : ur_gpI a (ur_gp (c :: d :: x)) = nI a := by rw [ur_gp, if_pos ⟨z, y⟩]; rfl
        rw [e] at k
        rw [wX_readAddress_5]
        exact br_c (fun _ => k) (fun _ => br_t (nI_pos' (by omega)) k)
      · exact br_f y (nm_e (ih (nx (fun q => y q.2))))
    · exact br_f z (nm_e (ih (nx (fun q => z q.1))))
theorem xa_ra {post : Int32 → SX → Prop} {a b : Nat} {w : List Int32} (hG : ur_G 1408 m a w) (hb : a + w.length = b)
    (k : ∀ wa', (ur_ad w = true → ∃ z : Nat → Int32, (∀ j, j < 8 → z j = 0) ∧ wa' = ur_wd w z) → post (ur_b (ur_ad w)) (ur_x bh lim cnt m l fa ta wa')) :
    wpX_readAddress post (ur_x bh lim cnt m l fa ta wa) (nI a) (nI b) :=
  ⟨_, xl_r5 w a hG hb ⟨9, xl_r55 hG hb k 8 0 wa rfl (fun j hj => absurd hj (Nat.not_lt_zero _))⟩⟩
end
end
section
/-! the component's check, II -/
theorem ur_ic (r k : Nat) (hr : r < 11) (hk : k < 8) : (nI (r * 8) + nI k).toNatClampNeg = r * 8 + k := by rw [nI_add]; exact nI_clamp (by omega)
theorem ur_iv (r k : Nat) (hr : r < 11) (hk : k < 8) : vp_in (nI (r * 8) + nI k) 88 := by rw [nI_add]; exact vp_in_nI (by omega) (by decide)
/-- a bracketed host in order: the closing bracket stands behind the opening one -/
theorem ur_close {T : List Int32} (au : ur_au T = true) (y : ur_at T (ur_h T) = 91) (nb : ur_bro T = false) :
    ur_find T 93 (ur_h T) (ur_e T) < ur_e T ∧ ur_p T = ur_find T 93 (ur_h T) (ur_e T) + 1 ∧ ur_h T + 1 ≤ ur_p T - 1 ∧ (ur_p T = ur_e T ∨ ur_at T (ur_p T) = 58) := by
  have e2 := ur_h_hi au
  have hlt := ur_bk_lt au y
  have f0 := ur_find_lo (T := T) (c := 93) e2
  have f1 := ur_find_hi (T := T) (c := 93) e2
  have nb' : ur_br' T (ur_h T) (ur_e T) = false := by unfold ur_bro at nb; rw [au, Bool.true_and] at nb; exact nb
  unfold ur_br' at nb'
  rw [decide_eq_true y, Bool.true_and, Bool.or_eq_false_iff, decide_eq_false_iff_not] at nb'
  have f2 : ur_find T 93 (ur_h T) (ur_e T) < ur_e T := by omega
  have ep : ur_p T = ur_find T 93 (ur_h T) (ur_e T) + 1 := by unfold ur_p ur_p'; rw [if_pos y, if_pos f2]
  have f3 : ur_find T 93 (ur_h T) (ur_e T) ≠ ur_h T := by
    intro z
    have := ur_find_is e2 f2
    rw [z, y] at this
    exact absurd this (by decide)
  refine ⟨f2, ep, by omega, ?_⟩
  have n2 := nb'.2
  by_cases v : ur_at T (ur_p T) = 58
  · exact Or.inr v
  · have q : ur_p' T (ur_h T) (ur_e T) = ur_p T := rfl
    rw [q, decide_eq_false v, Bool.not_false, Bool.and_true, decide_eq_false_iff_not] at n2
    have := ur_p_hi au
    exact Or.inl (by omega)
section
variable {bh lim cnt : Int32} {m l fa ta wa : Nat → Int32} {L : Nat → Option (List Int32)} {T : List Int32}
theorem xa_gH {post : Int32 → SX → Prop} (r : Nat) (h : ur_M 128 L m l) (hr : r < 11) (hL : L r = some T) (au : ur_au T = true)
    (k : ∀ wa', post (ur_b (ur_gH T)) (ur_x (ur_b (ur_bro T)) lim cnt m l fa ta wa')) :
    wpX_goodHost post (ur_x (ur_b (ur_bro T)) lim cnt m l fa ta wa) (nI (r * 128 + ur_h T)) (nI (r * 128 + ur_p T)) := by
  have h8 := ur_M_le h hr hL
  have e1 := ur_e_le T
  have e2 := ur_p_hi au
  have e3 := ur_p_lo au
  have e4 := ur_h_hi au
  have hB2 : ur_B T 2 = some (ur_h T, ur_p T) := by rw [ur_B2, if_neg (by rw [au]; decide)]
  have hC : ur_C T 2 = ur_ex T (ur_h T) (ur_p T) := ur_C_s hB2
  unfold wpX_goodHost
  dsimp only
  refine ur_br (fun nb => ?_) (fun b => ?_)
  · have nob : ¬ ur_at T (ur_h T) = 91 → wX_goodHost_36 post (nI (r * 128 + ur_h T)) (nI (r * 128 + ur_p T)) 128 6 7 8 9 10 (ur_b (ur_bro T)) lim cnt m l fa ta wa := by
      intro z
      have eg : ur_gH T = ur_gC 0 (ur_C T 2) := by unfold ur_gH; rw [nb, if_neg z]; rfl
      rw [eg] at k
      unfold wX_goodHost_36
      refine xa_gC (lv := 0) (w := ur_C T 2) (by decide) ?_ ⟨ur_b_n _, k wa⟩
      refine Or.inr ⟨r * 128 + ur_h T, rfl, ?_, ?_⟩
      · rw [hC, ur_ex_len (by omega)]; exact congrArg nI (by omega)
      · rw [hC]; exact ur_M_G h hr hL (ur_G_ex e3 (by omega))
    refine pk_le (r * 128 + ur_p T) (r * 128 + ur_h T) (fun z => ?_) (fun z => ⟨vp_in_nI (by omega) (by decide), ?_⟩)
    · refine nob (fun y => ?_)
      obtain ⟨_, q, q2, _⟩ := ur_close au y nb
      omega
    · rw [nI_clamp (show r * 128 + ur_h T < 2 ^ 31 by omega), ur_M_at h hr hL (by omega)]
      by_cases y : ur_at T (ur_h T) = 91
      · obtain ⟨q0, q1, q2, q3⟩ := ur_close au y nb
        have eg : ur_gH T = ur_ad (ur_ex T (ur_h T + 1) (ur_p T - 1)) := by unfold ur_gH; rw [nb, if_pos y]; rfl
        rw [eg] at k
        refine br_t y ?_
        rw [nI_1, ur_s1 (show 0 < r * 128 + ur_p T by omega)]
        have G := ur_M_G h hr hL (ur_G_ex q2 (show ur_p T - 1 ≤ T.length by omega))
        refine xa_ra (w := ur_ex T (ur_h T + 1) (ur_p T - 1)) (a := r * 128 + ur_h T + 1) (b := r * 128 + ur_p T - 1) (by rw [Nat.add_assoc]; exact G) (by rw [ur_ex_len (by omega)]; omega) (fun wa' _ => ⟨ur_b_n _, k wa'⟩)
      · exact br_f y (nob y)
  · have eg : ur_gH T = false := by unfold ur_gH; rw [b]; rfl
    rw [eg] at k
    exact k wa
theorem xs_135 {post : Int32 → SX → Prop} (r : Nat) (h : ur_M 128 L m l) (hr : r < 11) (hL : L r = some T) (hB : ur_BX r T fa ta)
    (k : post (if ur_g4 T = false then 8 else if ur_g5 T = false then 9 else if ur_g6 T = false then 10 else 0) (ur_x bh lim cnt m l fa ta wa)) :
    wX_check_135 post (nI (r * 8)) 128 6 7 8 9 10 bh lim cnt m l fa ta wa := by
  have v4 : vp_in (nI (r * 8) + 4) 88 := ur_iv r 4 hr (by decide)
  have v5 : vp_in (nI (r * 8) + 5) 88 := ur_iv r 5 hr (by decide)
  have v6 : vp_in (nI (r * 8) + 6) 88 := ur_iv r 6 hr (by decide)
  have i4 : (nI (r * 8) + 4).toNatClampNeg = r * 8 + 4 := ur_ic r 4 hr (by decide)
  have i5 : (nI (r * 8) + 5).toNatClampNeg = r * 8 + 5 := ur_ic r 5 hr (by decide)
  have i6 : (nI (r * 8) + 6).toNatClampNeg = r * 8 + 6 := ur_ic r 6 hr (by decide)
  unfold wX_check_135
  rw [i4, i5, i6]
  refine ⟨v4, v4, xa_gC (lv := 2) (by decide) (ur_R_X h hr hL hB (by decide)) (ur_br (fun z => ?_) (fun z => ?_))⟩
  · rw [if_pos (show ur_g4 T = false from z)] at k; exact k
  rw [if_neg (show ¬ ur_g4 T = false from by rw [show ur_g4 T = true from z]; decide)] at k
  refine ⟨v5, v5, xa_gC (lv := 3) (by decide) (ur_R_X h hr hL hB (by decide)) (ur_br (fun z => ?_) (fun z => ?_))⟩
  · rw [if_pos (show ur_g5 T = false from z)] at k; exact k
  rw [if_neg (show ¬ ur_g5 T = false from by rw [show ur_g5 T = true from z]; decide)] at k
  refine ⟨v6, v6, xa_gC (lv := 3) (by decide) (ur_R_X h hr hL hB (by decide)) (ur_br (fun z => ?_) (fun z => ?_))⟩
  · rw [if_pos (show ur_g6 T = false from z)] at k; exact k
  rw [if_neg (show ¬ ur_g6 T = false from by rw [show ur_g6 T = true from z]; decide)] at k
  exact k
theorem ur_oI_s {o : Option Nat} {A B : Prop} (hb : ∀ v, o = some v → v < 2 ^ 31) (f : o.isSome = true → A) (g : o.isSome = false → B) : (0 ≤ ur_oI o → A) ∧ (¬ 0 ≤ ur_oI o → B) := by
  cases o with
  | none => exact br_f ur_m1le (g rfl)
  | some v => exact br_t (nI_pos' (hb v rfl)) (f rfl)
theorem ur_pv_le : ∀ (l : List Int32) (n v : Nat), n ≤ 65535 → ur_pv n l = some v → v ≤ 65535
  | [], n, v, hn, h => by cases h; exact hn
  | c :: l, n, v, hn, h => by
    rw [ur_pv] at h
    split at h
    · split at h
      · rename_i q; exact ur_pv_le l _ v q h
      · cases h
    · cases h
theorem xs_100 {post : Int32 → SX → Prop} (r : Nat) (h : ur_M 128 L m l) (hr : r < 11) (hL : L r = some T) (hB : ur_BX r T fa ta)
    (k : post (if ur_g3 T = false then 7 else if ur_g4 T = false then 8 else if ur_g5 T = false then 9 else if ur_g6 T = false then 10 else 0) (ur_x bh lim cnt m l fa ta wa)) :
    wX_check_100 post (nI r) (nI (r * 8)) 128 6 7 8 9 10 bh lim cnt m l fa ta wa := by
  have v3 : vp_in (nI (r * 8) + 3) 88 := ur_iv r 3 hr (by decide)
  have i3 : (nI (r * 8) + 3).toNatClampNeg = r * 8 + 3 := ur_ic r 3 hr (by decide)
  unfold wX_check_100
  rw [i3]
  refine xa_has r 3 hr (by decide) hB (ur_M_le h hr hL) (ur_br (fun z => ?_) (fun z => ⟨v3, v3, xa_pv (ur_R_X h hr hL hB (by decide)) (ur_oI_s ?_ (fun y => ?_) (fun y => ?_))⟩))
  · have : ur_g3 T = true := by unfold ur_g3; rw [z]; rfl
    rw [if_neg (by rw [this]; decide)] at k
    exact xs_135 r h hr hL hB k
  · intro v hv; have := ur_pv_le _ _ _ (by decide) hv; omega
  · have : ur_g3 T = true := by unfold ur_g3; rw [y, Bool.or_true]
    rw [if_neg (by rw [this]; decide)] at k
    exact xs_135 r h hr hL hB k
  · have : ur_g3 T = false := by unfold ur_g3; rw [z, y]; rfl
    rw [if_pos this] at k
    exact k
theorem xs_39 {post : Int32 → SX → Prop} (r : Nat) (h : ur_M 128 L m l) (hr : r < 11) (hL : L r = some T) (hB : ur_BX r T fa ta)
    (k : ∀ wa', post (if ur_g1 T = false then 5 else if ur_g2 T = false then 6 else if ur_g3 T = false then 7 else if ur_g4 T = false then 8 else if ur_g5 T = false then 9 else if ur_g6 T = false then 10 else 0) (ur_x (ur_b (ur_bro T)) lim cnt m l fa ta wa')) :
    wX_check_39 post (nI r) (nI (r * 8)) 128 6 7 8 9 10 (ur_b (ur_bro T)) lim cnt m l fa ta wa := by
  have v1 : vp_in (nI (r * 8) + 1) 88 := ur_iv r 1 hr (by decide)
  have v2 : vp_in (nI (r * 8) + 2) 88 := ur_iv r 2 hr (by decide)
  have i1 : (nI (r * 8) + 1).toNatClampNeg = r * 8 + 1 := ur_ic r 1 hr (by decide)
  have i2 : (nI (r * 8) + 2).toNatClampNeg = r * 8 + 2 := ur_ic r 2 hr (by decide)
  unfold wX_check_39
  rw [i1, i2]
  refine ⟨v1, v1, xa_gC (lv := 1) (by decide) (ur_R_X h hr hL hB (by decide)) (ur_br (fun z => ?_) (fun z => ?_))⟩
  · have k := k wa
    rw [if_pos (show ur_g1 T = false from z)] at k; exact k
  have g1 : ¬ ur_g1 T = false := by rw [show ur_g1 T = true from z]; decide
  refine xa_has r 2 hr (by decide) hB (ur_M_le h hr hL) (ur_br (fun z => ?_) (fun z => ⟨v2, v2, ?_⟩))
  · have k := k wa
    have : ur_g2 T = true := by unfold ur_g2; rw [z]; rfl
    rw [if_neg g1, if_neg (by rw [this]; decide)] at k
    exact xs_100 r h hr hL hB k
  · have au : ur_au T = true := by
      cases q : ur_au T
      · rw [ur_B2, if_pos q] at z; cases z
      · rfl
    have hB2 : ur_B T 2 = some (ur_h T, ur_p T) := by rw [ur_B2, if_neg (by rw [au]; decide)]
    have eg : ur_g2 T = ur_gH T := by unfold ur_g2; rw [hB2]; rfl
    rw [(hB 2 (by decide)).1, (hB 2 (by decide)).2, ur_fX_s hB2, ur_tX_s hB2]
    refine xa_gH r h hr hL au (fun wa' => ?_)
    have k := k wa'
    rw [if_neg g1, eg] at k
    refine ur_br (fun y => ?_) (fun y => ?_)
    · rw [if_pos y] at k; exact k
    · rw [if_neg (by rw [y]; decide)] at k
      exact xs_100 r h hr hL hB k
theorem xa_check {post : Int32 → SX → Prop} (r : Nat) (h : ur_M 128 L m l) (hr : r < 11) (hL : L r = some T) (hB : ur_BX r T fa ta)
    (k : ∀ wa', post (ur_J T) (ur_x (ur_b (ur_bro T)) lim cnt m l fa ta wa')) :
    wpX_check post (ur_x (ur_b (ur_bro T)) lim cnt m l fa ta wa) (nI r) := by
  have v0 : vp_in (nI (r * 8) + 0) 88 := ur_iv r 0 hr (by decide)
  have i0 : (nI (r * 8) + 0).toNatClampNeg = r * 8 + 0 := ur_ic r 0 hr (by decide)
  unfold ur_J at k
  unfold wpX_check
  refine nm_r (ur_m8 r) ?_
  rw [i0]
  refine xa_has r 0 hr (by decide) hB (ur_M_le h hr hL) (ur_br (fun z => ?_) (fun z => ⟨v0, v0, xa_gS (ur_R_X h hr hL hB (by decide)) (ur_br (fun y => ?_) (fun y => ?_))⟩))
  · have : ur_g0 T = true := by unfold ur_g0; rw [z]; rfl
    rw [if_neg (by rw [this]; decide)] at k
    exact xs_39 r h hr hL hB k
  · have : ur_g0 T = false := by unfold ur_g0; rw [z, y]; rfl
    rw [if_pos this] at k
    exact k wa
  · have : ur_g0 T = true := by unfold ur_g0; rw [y, Bool.or_true]
    rw [if_neg (by rw [this]; decide)] at k
    exact xs_39 r h hr hL hB k
end
end
section
/-! the reference's judge -/
def ur_gpY (a b : Nat) : Option Nat → Nat
  | none => b
  | some j => a + j
section
variable {lim cnt : Int32} {yc yn ys ye : Nat → Int32} {L : Nat → Option (List Int32)} {T : List Int32} {post : Int32 → Prop}
theorem yl_gap (r : Nat) (h : ur_M 256 L yc yn) (hr : r < 11) (hL : L r = some T) {b : Nat} : ∀ (x : List Int32) (i : Nat), ur_G T.length (ur_at T) i x → i + x.length = b → post (nI (ur_gpY i b (ur_gp x))) →
    wY_gap_3 post (nI r) (nI b) lim cnt yc yn ys ye (x.length + 1) (nI i)
  | [], i, hG, hb, k => by
    have h8 := ur_M_le h hr hL
    have hN := hG.1
    simp only [List.length_nil, Nat.add_zero] at hb hN
    rw [wY_gap_3]
    dsimp only
    rw [nI_1]
    exact br_t (nI_le (by omega) (by omega)) k
  | [c], i, hG, hb, k => by
    have h8 := ur_M_le h hr hL
    have hN := hG.1
    simp only [List.length_cons, List.length_nil] at hb hN
    rw [wY_gap_3]
    dsimp only
    rw [nI_1]
    exact br_t (nI_le (by omega) (by omega)) k
  | c :: d :: x, i, hG, hb, k => by
    have h8 := ur_M_le h hr hL
    have hN := hG.1
    obtain ⟨h1, h2, h3⟩ := ur_G_cons hG
    obtain ⟨h4, h5, h6⟩ := ur_G_cons h3
    simp only [List.length_cons] at hb hN
    have ih := yl_gap r h hr hL (b := b) (d :: x) (i + 1) h3 (by simp only [List.length_cons]; omega)
    rw [show (c :: d :: x).length + 1 = ((d :: x).length + 1) + 1 from rfl, wY_gap_3]
    dsimp only
    rw [nI_1]
    have nx : ¬ (c = 58 ∧ d = 58) → post (nI (ur_gpY (i + 1) b (ur_gp (d :: x)))) := by
      intro q
      have e : ur_gpY i b (ur_gp (c :: d :: x)) = ur_gpY (i + 1) b (ur_gp (d :: x)) := by
        rw [ur_gp, if_neg q]
        cases ur_gp (d :: x) with
        | none => rfl
        | some j => exact (show i + (j + 1) = i + 1 + j by omega)
      rw [e] at k; exact k
    refine br_f (nI_ge (by omega) (by omega)) (ya_at r i h hr hL (by omega) ?_)
    rw [h2]
    by_cases z : c = 58
    · refine br_t z (ya_at r (i + 1) h hr hL (by omega) ?_)
      rw [h5]
      by_cases y : d = 58
      · have e : ur_gpY i b (ur_gp (c :: d :: x)) = i := by rw [ur_gp, if_pos ⟨z, y⟩]; rfl
        rw [e] at k
        exact br_t y k
      · exact br_f y (nm_e (ih (nx (fun q => y q.2))))
    · exact br_f z (nm_e (ih (nx (fun q => z q.1))))
theorem ya_gap (r a b : Nat) (h : ur_M 256 L yc yn) (hr : r < 11) (hL : L r = some T) {w : List Int32} (hG : ur_G T.length (ur_at T) a w) (hb : a + w.length = b) (k : post (nI (ur_gpY a b (ur_gp w)))) :
    wpY_gap post (ur_y lim cnt yc yn ys ye) (nI r) (nI a) (nI b) := ⟨_, yl_gap r h hr hL w a hG hb k⟩
theorem yl_43c {J : Int32 → Int32 → Int32 → Int32 → Prop} {x1 x3 kI v : Int32} (g d i : Nat) (hg : d < 2000)
    (k1 : d < 1 → post (-1)) (k2 : 4 < d → post (-1)) (k3 : ¬ d < 1 → d ≤ 4 → nI g = kI → post v) (k4 : ¬ d < 1 → d ≤ 4 → ¬ nI g = kI → J (nI (g + 1)) 0 0 (nI (i + 1))) :
    wY_list_43 post J x1 x3 kI (nI g) (nI d) v (nI i) 58 lim cnt yc yn ys ye := by
  unfold wY_list_43
  refine br_t rfl (pk_lt d 1 k1 (fun z => pk_le d 4 (fun y => ?_) k2))
  unfold wY_list_78
  refine br_t rfl (br_c (fun q => k3 (by omega) y q) (fun q => ?_))
  unfold wY_list_95 wY_list_109
  refine br_t rfl (nm_r (nI_1 _) (br_t rfl ?_))
  unfold wY_list_135
  exact br_t rfl (nm_r (nI_1 _) (k4 (by omega) y q))
theorem yl_43h {J : Int32 → Int32 → Int32 → Int32 → Prop} {x1 x3 kI v c : Int32} (g d i : Nat) (hc : ¬ c = 58)
    (k1 : 0 ≤ ur_hx c → J (nI g) (nI (d + 1)) (v * 16 + ur_hx c) (nI (i + 1))) (k2 : ¬ 0 ≤ ur_hx c → post (-1)) :
    wY_list_43 post J x1 x3 kI (nI g) (nI d) v (nI i) c lim cnt yc yn ys ye := by
  unfold wY_list_43
  refine br_f hc (ya_hx (br_c (fun q => ?_) k2))
  unfold wY_list_78
  refine br_f hc ?_
  unfold wY_list_95 wY_list_109
  refine br_f hc (nm_r (ur_p0 _) (br_f hc (ya_hx ?_)))
  unfold wY_list_135
  exact br_f hc (nm_r (nI_1 _) (nm_r (nI_1 _) (k1 q)))
theorem yl_list (r : Nat) (h : ur_M 256 L yc yn) (hr : r < 11) (hL : L r = some T) {b : Nat} {kI : Int32} : ∀ (x : List Int32) (i g d : Nat) (v : Int32), g + x.length < 1000 → d + x.length < 1000 → ur_G T.length (ur_at T) i x → i + x.length = b → post (ur_yl kI g d v x) →
    wY_list_19 post (nI r) (nI b) kI lim cnt yc yn ys ye (x.length + 2) (nI g) (nI d) v (nI i)
  | [], i, g, d, v, hg, hd, hG, hb, k => by
    have h8 := ur_M_le h hr hL
    have hN := hG.1
    simp only [List.length_nil, Nat.add_zero] at hb hN hg hd
    subst hb
    rw [ur_yl] at k
    refine br_f (nI_nlt (by omega) (by omega)) (br_t rfl ?_)
    refine yl_43c g d i (by omega) (fun z => ?_) (fun z => ?_) (fun z y q => ?_) (fun z y q => ?_)
    · rw [if_pos z] at k; exact k
    · rw [if_neg (by omega), if_neg (by omega)] at k; exact k
    · rw [if_neg z, if_pos y, if_pos q] at k; exact k
    · rw [if_neg z, if_pos y, if_neg q] at k
      exact br_t (nI_lt (by omega) (by omega)) k
  | c :: x, i, g, d, v, hg, hd, hG, hb, k => by
    have h8 := ur_M_le h hr hL
    have hN := hG.1
    obtain ⟨h1, h2, h3⟩ := ur_G_cons hG
    simp only [List.length_cons] at hb hN hg hd
    have ih := yl_list r h hr hL (b := b) (kI := kI) x (i + 1)
    rw [ur_yl] at k
    refine br_f (nI_nlt (by omega) (by omega)) (br_f (fun z => by have := (nI_eq (by omega) (by omega)).mp z; omega) (ya_at r i h hr hL (by omega) ?_))
    rw [h2]
    by_cases z : c = 58
    · rw [if_pos z] at k
      rw [z]
      refine yl_43c g d i (by omega) (fun z => ?_) (fun z => ?_) (fun z y q => ?_) (fun z y q => ?_)
      · rw [if_pos z] at k; exact k
      · rw [if_neg (by omega), if_neg (by omega)] at k; exact k
      · rw [if_neg z, if_pos y, if_pos q] at k; exact k
      · rw [if_neg z, if_pos y, if_neg q] at k
        exact ih (g + 1) 0 0 (by omega) (by omega) h3 (by omega) k
    · rw [if_neg z] at k
      refine yl_43h g d i z (fun y => ?_) (fun y => ?_)
      · rw [if_pos y] at k
        exact ih g (d + 1) _ (by omega) (by omega) h3 (by omega) k
      · rw [if_neg y] at k; exact k
theorem ya_list (r a b : Nat) {kI : Int32} (h : ur_M 256 L yc yn) (hr : r < 11) (hL : L r = some T) {w : List Int32} (hG : ur_G T.length (ur_at T) a w) (hb : a + w.length = b) (k : post (ur_yL kI w)) :
    wpY_list post (ur_y lim cnt yc yn ys ye) (nI r) (nI a) (nI b) kI := by
  have h8 := ur_M_le h hr hL
  have hN := hG.1
  cases w with
  | nil =>
    simp only [List.length_nil, Nat.add_zero] at hb hN
    exact br_f (nI_nlt (by omega) (by omega)) k
  | cons c w =>
    simp only [List.length_cons] at hb hN
    exact br_t (nI_lt (by omega) (by omega)) ⟨_, yl_list r h hr hL (c :: w) a 0 0 0 (by simp only [List.length_cons]; omega) (by simp only [List.length_cons]; omega) hG hb k⟩
theorem ya_list0 {u : SY} {p0 p1 p2 p3 : Int32} (hp : ¬ p1 < p2) (k : post 0) : wpY_list post u p0 p1 p2 p3 := br_f hp k
theorem ya_ad (r a b : Nat) (h : ur_M 256 L yc yn) (hr : r < 11) (hL : L r = some T) {w : List Int32} (hG : ur_G T.length (ur_at T) a w) (hb : a + w.length = b) (k : post (ur_b (ur_ad w))) :
    wpY_address post (ur_y lim cnt yc yn ys ye) (nI r) (nI a) (nI b) := by
  have h8 := ur_M_le h hr hL
  have hN := hG.1
  unfold wpY_address
  refine ya_gap r a b h hr hL hG hb ?_
  cases hg : ur_gp w with
  | none =>
    have ea : ur_ad w = decide (ur_cN w = some 8) := by unfold ur_ad; rw [hg]
    show wpY_list _ _ _ _ (nI b) _
    refine ya_list r a b h hr hL hG hb ?_
    rw [ur_yL_c w (by omega)]
    refine ya_list0 ?_ (br_t rfl ?_)
    · show ¬ nI b + 2 < nI b
      rw [ur_p2]; exact nI_nlt (by omega) (by omega)
    · by_cases y : ur_cN w = some 8
      · rw [ea, decide_eq_true y] at k
        rw [y]
        exact br_t rfl k
      · have hne : ¬ ur_oI (ur_cN w) = 8 := by
          cases hc : ur_cN w with
          | none => decide
          | some n =>
            intro q
            have := ur_cN_le hc
            have q' : n = 8 := (nI_eq (by omega) (by decide)).mp q
            rw [q'] at hc; exact y hc
        rw [ea, decide_eq_false y] at k
        exact br_f hne k
  | some g =>
    have hg2 := ur_gp_lt w g hg
    have ea : ur_ad w = ur_le7 (ur_cN (w.take g)) (ur_cN (w.drop (g + 2))) := by unfold ur_ad; rw [hg]
    have G1 := ur_G_take hG g
    have G2 := ur_G_drop hG (k := g + 2) (by omega)
    have l1 : a + (w.take g).length = a + g := by rw [List.length_take]; omega
    have l2 : a + (g + 2) + (w.drop (g + 2)).length = b := by rw [List.length_drop]; omega
    show wpY_list _ _ _ _ (nI (a + g)) _
    refine ya_list r a (a + g) h hr hL G1 l1 ?_
    show wpY_list _ _ _ (nI (a + g) + 2) _ _
    rw [ur_p2, ur_yL_c _ (by rw [List.length_take]; omega)]
    refine ya_list r (a + g + 2) b h hr hL (by rw [Nat.add_assoc]; exact G2) (by omega) ?_
    rw [ur_yL_c _ (by rw [List.length_drop]; omega)]
    refine br_f (fun z => by have := (nI_eq (a := a + g) (b := b) (by omega) (by omega)).mp z; omega) ?_
    cases c1 : ur_cN (w.take g) with
    | none =>
      rw [c1] at ea
      rw [ea] at k
      exact br_t ur_m1lt k
    | some n1 =>
      have b1 := ur_cN_le c1
      rw [List.length_take] at b1
      refine br_f (nI_pos (by omega)) ?_
      cases c2 : ur_cN (w.drop (g + 2)) with
      | none =>
        rw [c1, c2] at ea
        rw [ea] at k
        exact br_t ur_m1lt k
      | some n2 =>
        have b2 := ur_cN_le c2
        rw [List.length_drop] at b2
        rw [c1, c2] at ea
        refine br_f (nI_pos (by omega)) ?_
        show ((7 < nI n1 + nI n2 → _) ∧ (¬ 7 < nI n1 + nI n2 → _))
        rw [nI_add]
        refine pk_lt 7 (n1 + n2) (fun y => ?_) (fun y => ?_)
        · have e7 : ur_le7 (some n1) (some n2) = false := decide_eq_false (by omega)
          rw [ea, e7] at k
          exact k
        · have e7 : ur_le7 (some n1) (some n2) = true := decide_eq_true y
          rw [ea, e7] at k
          exact k
end
/-! the characters that the reference allows -/
def ur_ya226 (kd : Nat) (c : Int32) : Bool := if c = 63 then (if kd < 5 then false else true) else false
def ur_ya221 (kd : Nat) (c : Int32) : Bool := if 4 ≤ kd then true else ur_ya226 kd c
def ur_ya207 (kd : Nat) (c : Int32) : Bool := if c = 64 then ur_ya221 kd c else if c = 47 then ur_ya221 kd c else ur_ya226 kd c
def ur_ya181 (kd : Nat) (c : Int32) : Bool := if c = 59 then true else if c = 61 then true else if c = 58 then (if kd = 2 then ur_ya207 kd c else true) else ur_ya207 kd c
def ur_ya0 (kd : Nat) (c : Int32) : Bool := if c = 33 then true else if c = 36 then true else if c < 38 then ur_ya181 kd c else if c ≤ 44 then true else ur_ya181 kd c
def ur_ya (kd : Nat) (c : Int32) : Bool := ur_un c || ur_ya0 kd c
theorem ur_ya_al {kd lv : Nat} (h : (kd = 1 ∧ lv = 1) ∨ (kd = 2 ∧ lv = 0) ∨ (kd = 4 ∧ lv = 2) ∨ (kd = 5 ∧ lv = 3) ∨ (kd = 6 ∧ lv = 3)) (c : Int32) : ur_ya kd c = ur_al lv c := by
  by_cases c1 : c = 58
  · subst c1; rcases h with ⟨rfl, rfl⟩ | ⟨rfl, rfl⟩ | ⟨rfl, rfl⟩ | ⟨rfl, rfl⟩ | ⟨rfl, rfl⟩ <;> rfl
  by_cases c2 : c = 64
  · subst c2; rcases h with ⟨rfl, rfl⟩ | ⟨rfl, rfl⟩ | ⟨rfl, rfl⟩ | ⟨rfl, rfl⟩ | ⟨rfl, rfl⟩ <;> rfl
  by_cases c3 : c = 47
  · subst c3; rcases h with ⟨rfl, rfl⟩ | ⟨rfl, rfl⟩ | ⟨rfl, rfl⟩ | ⟨rfl, rfl⟩ | ⟨rfl, rfl⟩ <;> rfl
  by_cases c4 : c = 63
  · subst c4; rcases h with ⟨rfl, rfl⟩ | ⟨rfl, rfl⟩ | ⟨rfl, rfl⟩ | ⟨rfl, rfl⟩ | ⟨rfl, rfl⟩ <;> rfl
  have e1 : ur_al2 lv c = false := by unfold ur_al2; rw [if_neg c1, if_neg c2, if_neg c3, if_neg c4]
  have e2 : ur_ya207 kd c = false := by unfold ur_ya207 ur_ya226; rw [if_neg c2, if_neg c3, if_neg c4]
  have e3 : ur_ya181 kd c = ur_sd2 c := by unfold ur_ya181 ur_sd2; rw [if_neg c1, e2]
  have e4 : ur_ya0 kd c = ur_sd c := by unfold ur_ya0 ur_sd; rw [e3]
  unfold ur_ya ur_al
  rw [e1, e4, Bool.or_false]
def ur_z3 (c : Int32) (z : Bool) (i b : Nat) (c1 c2 : Int32) : Bool := if c = 37 then (if b ≤ i + 2 then false else ur_hk c1 && ur_hk c2) else z
section
variable {lim cnt : Int32} {yc yn ys ye : Nat → Int32} {L : Nat → Option (List Int32)} {T : List Int32} {post : Int32 → Prop} {J : Int32 → Int32 → Prop} {x1 x3 x4 x6 x7 c c1 c2 : Int32}
theorem yg_226 (kd : Nat) (hk : kd < 7) (k : wY_good_243 post J x1 (nI kd) x3 x4 x6 x7 c c1 c2 (ur_b (ur_ya226 kd c)) lim cnt yc yn ys ye) :
    wY_good_226 post J x1 (nI kd) x3 x4 x6 x7 c c1 c2 lim cnt yc yn ys ye := by
  unfold wY_good_226
  refine ur_bi (P := fun z => wY_good_243 post J x1 (nI kd) x3 x4 x6 x7 c c1 c2 (ur_b z) lim cnt yc yn ys ye) k (fun k => ?_) (fun k => k)
  refine pk_lt kd 5 (fun z => ?_) (fun z => ?_)
  · rw [if_pos z] at k; exact k
  · rw [if_neg (by omega)] at k; exact k
theorem yg_221 (kd : Nat) (hk : kd < 7) (k : wY_good_243 post J x1 (nI kd) x3 x4 x6 x7 c c1 c2 (ur_b (ur_ya221 kd c)) lim cnt yc yn ys ye) :
    wY_good_221 post J x1 (nI kd) x3 x4 x6 x7 c c1 c2 lim cnt yc yn ys ye := by
  unfold wY_good_221
  unfold ur_ya221 at k
  refine pk_le 4 kd (fun z => ?_) (fun z => ?_)
  · rw [if_pos z] at k; exact k
  · rw [if_neg (by omega)] at k; exact yg_226 kd hk k
theorem yg_207 (kd : Nat) (hk : kd < 7) (k : wY_good_243 post J x1 (nI kd) x3 x4 x6 x7 c c1 c2 (ur_b (ur_ya207 kd c)) lim cnt yc yn ys ye) :
    wY_good_207 post J x1 (nI kd) x3 x4 x6 x7 c c1 c2 lim cnt yc yn ys ye := by
  unfold wY_good_207
  refine ur_bi (P := fun z => wY_good_243 post J x1 (nI kd) x3 x4 x6 x7 c c1 c2 (ur_b z) lim cnt yc yn ys ye) k (fun k => yg_221 kd hk k) (fun k => ?_)
  exact ur_bi (P := fun z => wY_good_243 post J x1 (nI kd) x3 x4 x6 x7 c c1 c2 (ur_b z) lim cnt yc yn ys ye) k (fun k => yg_221 kd hk k) (fun k => yg_226 kd hk k)
theorem yg_181 (kd : Nat) (hk : kd < 7) (k : wY_good_243 post J x1 (nI kd) x3 x4 x6 x7 c c1 c2 (ur_b (ur_ya181 kd c)) lim cnt yc yn ys ye) :
    wY_good_181 post J x1 (nI kd) x3 x4 x6 x7 c c1 c2 lim cnt yc yn ys ye := by
  unfold wY_good_181
  refine ur_bi (P := fun z => wY_good_243 post J x1 (nI kd) x3 x4 x6 x7 c c1 c2 (ur_b z) lim cnt yc yn ys ye) k (fun k => k) (fun k => ?_)
  refine ur_bi (P := fun z => wY_good_243 post J x1 (nI kd) x3 x4 x6 x7 c c1 c2 (ur_b z) lim cnt yc yn ys ye) k (fun k => k) (fun k => ?_)
  refine ur_bi (P := fun z => wY_good_243 post J x1 (nI kd) x3 x4 x6 x7 c c1 c2 (ur_b z) lim cnt yc yn ys ye) k (fun k => ?_) (fun k => yg_207 kd hk k)
  refine pk_eq kd 2 (fun z => ?_) (fun z => ?_)
  · rw [if_pos z] at k; exact yg_207 kd hk k
  · rw [if_neg z] at k; exact k
theorem yg_243 (kd i b : Nat) {z : Bool} (hi : i < 1000) (hb : b < 1000) (k : wY_good_286 post J x1 (nI kd) x3 (nI b) x6 (nI i) c (ur_b (ur_z3 c z i b c1 c2)) lim cnt yc yn ys ye) :
    wY_good_243 post J x1 (nI kd) x3 (nI b) x6 (nI i) c c1 c2 (ur_b z) lim cnt yc yn ys ye := by
  unfold wY_good_243
  refine ur_bi (P := fun z => wY_good_286 post J x1 (nI kd) x3 (nI b) x6 (nI i) c (ur_b z) lim cnt yc yn ys ye) k (fun k => ?_) (fun k => k)
  rw [ur_p2]
  refine pk_le b (i + 2) (fun y => ?_) (fun y => ya_hx ?_)
  · rw [if_pos y] at k; exact k
  · rw [if_neg (by omega)] at k
    by_cases w : ur_hx c1 < 0
    · have : ur_hk c1 = false := by unfold ur_hk; rw [decide_eq_true w]; rfl
      rw [this] at k
      exact br_t w k
    · have : ur_hk c1 = true := by unfold ur_hk; rw [decide_eq_false w]; rfl
      rw [this, Bool.true_and] at k
      refine br_f w (ya_hx ?_)
      by_cases v : ur_hx c2 < 0
      · have : ur_hk c2 = false := by unfold ur_hk; rw [decide_eq_true v]; rfl
        rw [this] at k
        exact br_t v k
      · have : ur_hk c2 = true := by unfold ur_hk; rw [decide_eq_false v]; rfl
        rw [this] at k
        exact br_f v k
/-- one turn of the loop of good, up to the last tests -/
theorem yg_106 (r kd i b n : Nat) (h : ur_M 256 L yc yn) (hr : r < 11) (hL : L r = some T) (hk : kd < 7) (hi : i < b) (hb : b ≤ T.length)
    (k : wY_good_286 post (wY_good_106 post (nI r) (nI kd) x3 (nI b) lim cnt yc yn ys ye n) (nI r) (nI kd) x3 (nI b) x6 (nI i) (ur_at T i) (ur_b (ur_z3 (ur_at T i) (ur_ya kd (ur_at T i)) i b (ur_at T (i + 1)) (ur_at T (i + 2)))) lim cnt yc yn ys ye) :
    wY_good_106 post (nI r) (nI kd) x3 (nI b) lim cnt yc yn ys ye (n + 1) x6 (nI i) := by
  have h8 := ur_M_le h hr hL
  have K := yg_243 kd i b (by omega) (by omega) k
  rw [wY_good_106]
  dsimp only
  refine br_f (nI_ge hi (by omega)) (ya_at r i h hr hL (by omega) ?_)
  rw [nI_1, ur_p2]
  refine ya_at r (i + 1) h hr hL (by omega) (ya_at r (i + 2) h hr hL (by omega) (ya_un ?_))
  unfold ur_ya at K
  refine ur_br (fun z => ?_) (fun z => ?_)
  · rw [z, Bool.false_or] at K
    refine ur_bi (P := fun z => wY_good_243 post (wY_good_106 post (nI r) (nI kd) x3 (nI b) lim cnt yc yn ys ye n) (nI r) (nI kd) x3 (nI b) x6 (nI i) (ur_at T i) (ur_at T (i + 1)) (ur_at T (i + 2)) (ur_b z) lim cnt yc yn ys ye) K (fun k => k) (fun k => ?_)
    refine ur_bi (P := fun z => wY_good_243 post (wY_good_106 post (nI r) (nI kd) x3 (nI b) lim cnt yc yn ys ye n) (nI r) (nI kd) x3 (nI b) x6 (nI i) (ur_at T i) (ur_at T (i + 1)) (ur_at T (i + 2)) (ur_b z) lim cnt yc yn ys ye) k (fun k => k) (fun k => ?_)
    refine ur_bi (P := fun z => wY_good_243 post (wY_good_106 post (nI r) (nI kd) x3 (nI b) lim cnt yc yn ys ye n) (nI r) (nI kd) x3 (nI b) x6 (nI i) (ur_at T i) (ur_at T (i + 1)) (ur_at T (i + 2)) (ur_b z) lim cnt yc yn ys ye) k (fun k => yg_181 kd hk k) (fun k => ?_)
    exact ur_bi (P := fun z => wY_good_243 post (wY_good_106 post (nI r) (nI kd) x3 (nI b) lim cnt yc yn ys ye n) (nI r) (nI kd) x3 (nI b) x6 (nI i) (ur_at T i) (ur_at T (i + 1)) (ur_at T (i + 2)) (ur_b z) lim cnt yc yn ys ye) k (fun k => k) (fun k => yg_181 kd hk k)
  · rw [z] at K; exact K
theorem yg_393 {z : Bool} (i : Nat) (kf : z = false → post 0) (kt : z = true → J x6 (nI (i + 1))) : wY_good_393 post J x1 c1 x3 x4 x6 (nI i) (ur_b z) lim cnt yc yn ys ye := by
  unfold wY_good_393
  exact ur_br kf (fun q => nm_r (nI_1 _) (kt q))
theorem yl_gC (r kd lv b : Nat) (h : ur_M 256 L yc yn) (hr : r < 11) (hL : L r = some T) (hkl : (kd = 1 ∧ lv = 1) ∨ (kd = 2 ∧ lv = 0) ∨ (kd = 4 ∧ lv = 2) ∨ (kd = 5 ∧ lv = 3) ∨ (kd = 6 ∧ lv = 3)) :
    ∀ (x : List Int32) (i : Nat), ur_G T.length (ur_at T) i x → i + x.length = b → post (ur_b (ur_gC lv x)) → wY_good_106 post (nI r) (nI kd) x3 (nI b) lim cnt yc yn ys ye (x.length + 1) x6 (nI i)
  | [], i, hG, hb, k => by
    have h8 := ur_M_le h hr hL
    have hN := hG.1
    simp only [List.length_nil, Nat.add_zero] at hb hN
    exact br_t (nI_le (by omega) (by omega)) (pk_eq kd 0 (fun z => by omega) (fun _ => k))
  | c :: x, i, hG, hb, k => by
    have h8 := ur_M_le h hr hL
    have hN := hG.1
    obtain ⟨h1, h2, h3⟩ := ur_G_cons hG
    simp only [List.length_cons] at hb hN
    have ih := yl_gC r kd lv b h hr hL hkl x (i + 1) h3 (by omega)
    refine yg_106 r kd i b (x.length + 1) h hr hL (by omega) (by omega) (by omega) ?_
    have e : ur_z3 (ur_at T i) (ur_ya kd (ur_at T i)) i b (ur_at T (i + 1)) (ur_at T (i + 2)) = if c = 37 then ur_h2 x else ur_al lv c := by
      unfold ur_z3
      rw [h2, ur_ya_al hkl]
      by_cases z : c = 37
      · rw [if_pos z, if_pos z]
        by_cases y : b ≤ i + 2
        · rw [if_pos y, ur_h2_lt x (by omega)]
        · have e0 : ur_at T (i + 1) = ur_at x 0 := h3.2 0 (by omega)
          have e1 : ur_at T (i + 2) = ur_at x 1 := h3.2 1 (by omega)
          rw [if_neg y, ur_h2_ge x (by omega), e0, e1]
      · rw [if_neg z, if_neg z]
    rw [e]
    unfold ur_gC at k
    unfold wY_good_286
    refine pk_eq kd 0 (fun z => by omega) (fun _ => ?_)
    unfold wY_good_342
    refine pk_eq kd 3 (fun z => by omega) (fun _ => ?_)
    unfold wY_good_374
    refine pk_eq kd 3 (fun z => by omega) (fun _ => ?_)
    refine yg_393 i (fun q => ?_) (fun q => ?_)
    · rw [q] at k; exact k
    · rw [q] at k; exact ih k
theorem yg_tail0 {z : Bool} (i : Nat) (kf : z = false → post 0) (kt : z = true → J x6 (nI (i + 1))) : wY_good_340 post J x1 0 x3 x4 x6 (nI i) c (ur_b z) lim cnt yc yn ys ye := by
  unfold wY_good_340 wY_good_342
  refine br_f (by decide) ?_
  unfold wY_good_374
  exact br_f (by decide) (yg_393 i kf kt)
theorem yl_gS (r A b : Nat) (h : ur_M 256 L yc yn) (hr : r < 11) (hL : L r = some T) (hA : A < b) :
    ∀ (x : List Int32) (i : Nat), A < i → ur_G T.length (ur_at T) i x → i + x.length = b → post (ur_b (ur_gS2 x)) → wY_good_106 post (nI r) 0 (nI A) (nI b) lim cnt yc yn ys ye (x.length + 1) x6 (nI i)
  | [], i, hi, hG, hb, k => by
    have h8 := ur_M_le h hr hL
    have hN := hG.1
    simp only [List.length_nil, Nat.add_zero] at hb hN
    exact br_t (nI_le (by omega) (by omega)) (br_t rfl (br_f (nI_ge hA (by omega)) k))
  | c :: x, i, hi, hG, hb, k => by
    have h8 := ur_M_le h hr hL
    have hN := hG.1
    obtain ⟨h1, h2, h3⟩ := ur_G_cons hG
    simp only [List.length_cons] at hb hN
    have ih := yl_gS r A b h hr hL hA x (i + 1) (by omega) h3 (by omega)
    refine yg_106 r 0 i b (x.length + 1) h hr hL (by omega) (by omega) (by omega) ?_
    rw [h2]
    unfold ur_gS2 ur_sc at k
    unfold wY_good_286
    refine br_t rfl (ya_isL (ur_br (fun z => ?_) (fun z => ?_)))
    · rw [z, Bool.false_or] at k
      refine br_f (nI_ge hi (by omega)) (ya_isD (ur_br (fun z => ?_) (fun z => ?_)))
      · rw [z, Bool.false_or] at k
        unfold ur_sc3 at k
        by_cases a1 : c = 43
        · rw [if_pos a1] at k; exact br_t a1 (yg_tail0 (z := true) i (fun q => by cases q) (fun _ => ih k))
        rw [if_neg a1] at k; refine br_f a1 ?_
        by_cases a2 : c = 45
        · rw [if_pos a2] at k; exact br_t a2 (yg_tail0 (z := true) i (fun q => by cases q) (fun _ => ih k))
        rw [if_neg a2] at k; refine br_f a2 ?_
        by_cases a3 : c = 46
        · rw [if_pos a3] at k; exact br_t a3 (yg_tail0 (z := true) i (fun q => by cases q) (fun _ => ih k))
        rw [if_neg a3] at k; exact br_f a3 (yg_tail0 (z := false) i (fun _ => k) (fun q => by cases q))
      · rw [z] at k; exact yg_tail0 (z := true) i (fun q => by cases q) (fun _ => ih k)
    · rw [z] at k; exact yg_tail0 (z := true) i (fun q => by cases q) (fun _ => ih k)
theorem ya_gS (r a b : Nat) (h : ur_M 256 L yc yn) (hr : r < 11) (hL : L r = some T) {w : List Int32} (hG : ur_G T.length (ur_at T) a w) (hb : a + w.length = b) (k : post (ur_b (ur_gS w))) :
    ∃ n, wY_good_106 post (nI r) 0 (nI a) (nI b) lim cnt yc yn ys ye n x6 (nI a) := by
  have h8 := ur_M_le h hr hL
  have hN := hG.1
  cases w with
  | nil =>
    simp only [List.length_nil, Nat.add_zero] at hb hN
    exact ⟨1, br_t (nI_le (by omega) (by omega)) (br_t rfl (br_t (nI_le (by omega) (by omega)) k))⟩
  | cons c x =>
    obtain ⟨h1, h2, h3⟩ := ur_G_cons hG
    simp only [List.length_cons] at hb hN
    have ih := yl_gS (x6 := x6) (post := post) (lim := lim) (cnt := cnt) (ys := ys) (ye := ye) r a b h hr hL (by omega) x (a + 1) (by omega) h3 (by omega)
    refine ⟨x.length + 1 + 1, yg_106 r 0 a b (x.length + 1) h hr hL (by omega) (by omega) (by omega) ?_⟩
    rw [h2]
    rw [show ur_gS (c :: x) = (ur_isL c && ur_gS2 x) from rfl] at k
    unfold wY_good_286
    refine br_t rfl (ya_isL (ur_br (fun z => ?_) (fun z => ?_)))
    · rw [z] at k
      exact br_t (nI_le (Nat.le_refl _) (by omega)) (yg_tail0 (z := false) a (fun _ => k) (fun q => by cases q))
    · rw [z] at k; exact yg_tail0 (z := true) a (fun q => by cases q) (fun _ => ih k)
theorem yl_pv (r b : Nat) (h : ur_M 256 L yc yn) (hr : r < 11) (hL : L r = some T) :
    ∀ (x : List Int32) (i n : Nat), n ≤ 65535 → ur_G T.length (ur_at T) i x → i + x.length = b → post (ur_b (ur_pv n x).isSome) → wY_good_106 post (nI r) 3 x3 (nI b) lim cnt yc yn ys ye (x.length + 1) (nI n) (nI i)
  | [], i, n, hn, hG, hb, k => by
    have h8 := ur_M_le h hr hL
    have hN := hG.1
    simp only [List.length_nil, Nat.add_zero] at hb hN
    exact br_t (nI_le (by omega) (by omega)) (br_f (by decide) k)
  | c :: x, i, n, hn, hG, hb, k => by
    have h8 := ur_M_le h hr hL
    have hN := hG.1
    obtain ⟨h1, h2, h3⟩ := ur_G_cons hG
    simp only [List.length_cons] at hb hN
    refine yg_106 r 3 i b (x.length + 1) h hr hL (by omega) (by omega) (by omega) ?_
    rw [h2]
    unfold ur_pv at k
    unfold wY_good_286
    refine br_f (by decide) ?_
    unfold wY_good_342
    refine br_t rfl (ya_isD (ur_br (fun z => ?_) (fun z => ?_)))
    · rw [if_neg (by rw [z]; decide)] at k
      unfold wY_good_372 wY_good_374
      refine br_t rfl (br_t (by decide) ?_)
      unfold wY_good_391
      exact yg_393 (z := false) i (fun _ => k) (fun q => by cases q)
    · rw [if_pos z] at k
      have d9 := (ur_dv_e z).1
      have ev : nI n * 10 + c - 48 = nI (n * 10 + ur_dv c) := by
        have e1 : c = nI (48 + ur_dv c) := (ur_dv_e z).2
        have e2 : nI n * 10 + c = nI (n * 10 + (48 + ur_dv c)) := by rw [← nI_add, ← pk_mul, ← e1]; rfl
        rw [e2, show (48 : Int32) = nI 48 from rfl, pk_sub (by omega)]
        exact congrArg nI (by omega)
      rw [ev]
      unfold wY_good_372 wY_good_374
      refine br_t rfl (pk_lt 65535 (n * 10 + ur_dv c) (fun y => ?_) (fun y => ?_))
      · rw [if_neg (by omega)] at k
        unfold wY_good_391
        exact yg_393 (z := false) i (fun _ => k) (fun q => by cases q)
      · rw [if_pos y] at k
        unfold wY_good_391
        exact yg_393 (z := true) i (fun q => by cases q) (fun _ => yl_pv r b h hr hL x (i + 1) _ y h3 (by omega) k)
end
end
section
/-! the reference's judge, II -/
section
variable {lim cnt : Int32} {yc yn ys ye : Nat → Int32} {L : Nat → Option (List Int32)} {T : List Int32}
theorem ya_good_ne2 {post : Int32 → Prop} (r kd : Nat) (h : ur_M 256 L yc yn) (hr : r < 11) (hL : L r = some T) (hk : kd < 7) (h2 : kd ≠ 2)
    (kn : ur_B T kd = none → post 1) (ks : ∀ a b, ur_B T kd = some (a, b) → ∃ n, wY_good_106 post (nI r) (nI kd) (nI a) (nI b) lim cnt yc yn ys ye n 0 (nI a)) :
    wpY_good post (ur_y lim cnt yc yn ys ye) (nI r) (nI kd) := by
  have h8 := ur_M_le h hr hL
  unfold wpY_good
  refine ya_begin r kd h hr hL (by omega) (ya_end r kd h hr hL (by omega) (ya_end r 7 h hr hL (by decide) ?_))
  cases hB : ur_B T kd with
  | none => rw [ur_E_n hB]; exact br_f ur_m1le (kn hB)
  | some p =>
    have q := ur_B_b (a := p.1) (b := p.2) hB
    rw [ur_E_0 (a := p.1) (b := p.2) hB, ur_E_1 (a := p.1) (b := p.2) hB]
    exact br_t (nI_pos' (by omega)) (pk_eq kd 2 (fun z => absurd z h2) (fun _ => ks p.1 p.2 hB))
theorem ya_g0 {post : Int32 → Prop} (r : Nat) (h : ur_M 256 L yc yn) (hr : r < 11) (hL : L r = some T) (k : post (ur_b (ur_g0 T))) : wpY_good post (ur_y lim cnt yc yn ys ye) (nI r) (nI 0) := by
  refine ya_good_ne2 r 0 h hr hL (by decide) (by decide) (fun hB => ?_) (fun a b hB => ?_)
  · have : ur_g0 T = true := by unfold ur_g0; rw [hB]; rfl
    rw [this] at k; exact k
  · have q := ur_B_b hB
    have e : ur_g0 T = ur_gS (ur_ex T a b) := by unfold ur_g0; rw [ur_C_s hB, hB]; rfl
    rw [e] at k
    exact ya_gS r a b h hr hL (ur_G_ex q.1 q.2) (by rw [ur_ex_len q.2]; omega) k
theorem ya_gc {post : Int32 → Prop} (r kd lv : Nat) (h : ur_M 256 L yc yn) (hr : r < 11) (hL : L r = some T) (hkl : (kd = 1 ∧ lv = 1) ∨ (kd = 4 ∧ lv = 2) ∨ (kd = 5 ∧ lv = 3) ∨ (kd = 6 ∧ lv = 3)) (k : post (ur_b (ur_gC lv (ur_C T kd)))) : wpY_good post (ur_y lim cnt yc yn ys ye) (nI r) (nI kd) := by
  refine ya_good_ne2 r kd h hr hL (by omega) (by omega) (fun hB => ?_) (fun a b hB => ?_)
  · rw [ur_C_n hB] at k; exact k
  · have q := ur_B_b hB
    rw [ur_C_s hB] at k
    exact ⟨_, yl_gC r kd lv b h hr hL (by omega) _ a (ur_G_ex q.1 q.2) (by rw [ur_ex_len q.2]; omega) k⟩
theorem ya_g3 {post : Int32 → Prop} (r : Nat) (h : ur_M 256 L yc yn) (hr : r < 11) (hL : L r = some T) (k : post (ur_b (ur_g3 T))) : wpY_good post (ur_y lim cnt yc yn ys ye) (nI r) (nI 3) := by
  refine ya_good_ne2 r 3 h hr hL (by decide) (by decide) (fun hB => ?_) (fun a b hB => ?_)
  · have : ur_g3 T = true := by unfold ur_g3; rw [hB]; rfl
    rw [this] at k; exact k
  · have q := ur_B_b hB
    have e : ur_g3 T = (ur_pv 0 (ur_ex T a b)).isSome := by unfold ur_g3; rw [ur_C_s hB, hB]; rfl
    rw [e] at k
    exact ⟨_, yl_pv r b h hr hL _ a 0 (by decide) (ur_G_ex q.1 q.2) (by rw [ur_ex_len q.2]; omega) k⟩
theorem ya_g2 {post : Int32 → Prop} (r : Nat) (h : ur_M 256 L yc yn) (hr : r < 11) (hL : L r = some T) (k : post (ur_b (ur_g2 T))) : wpY_good post (ur_y lim cnt yc yn ys ye) (nI r) (nI 2) := by
  have h8 := ur_M_le h hr hL
  unfold wpY_good
  refine ya_begin r 2 h hr hL (by decide) (ya_end r 2 h hr hL (by decide) (ya_end r 7 h hr hL (by decide) ?_))
  cases au : ur_au T
  · have hB : ur_B T 2 = none := by rw [ur_B2, if_pos au]
    have : ur_g2 T = true := by unfold ur_g2; rw [hB]; rfl
    rw [this] at k
    rw [ur_E_n hB]; exact br_f ur_m1le k
  · have hB : ur_B T 2 = some (ur_h T, ur_p T) := by rw [ur_B2, if_neg (by rw [au]; decide)]
    have hB7 : ur_B T 7 = some (ur_sb T + 2, ur_e T) := by rw [ur_B7, if_neg (by rw [au]; decide)]
    have e0 : ur_g2 T = ur_gH T := by unfold ur_g2; rw [hB]; rfl
    have e1 := ur_e_le T
    have e2 := ur_p_hi au
    have e3 := ur_p_lo au
    have e4 := ur_h_hi au
    have e5 := ur_h_lo au
    rw [e0] at k
    rw [ur_E_0 hB, ur_E_1 hB, ur_E_1 hB7]
    refine br_t (nI_pos' (by omega)) (br_t rfl (ya_at r (ur_h T) h hr hL (by omega) ?_))
    have eb : ur_bro T = ur_br' T (ur_h T) (ur_e T) := by unfold ur_bro; rw [au]; rfl
    by_cases y : ur_at T (ur_h T) = 91
    · refine br_t y ?_
      rw [ur_s1 (show 0 < ur_p T by omega)]
      refine ya_at r (ur_p T - 1) h hr hL (by omega) ?_
      have hlt := ur_bk_lt au y
      have f1 := ur_find_hi (T := T) (c := 93) e4
      have f0 := ur_find_lo (T := T) (c := 93) e4
      have ok : ur_bro T = false → wY_good_82 post (nI r) (nI (ur_h T)) (nI (ur_p T)) lim cnt yc yn ys ye := by
        intro nb
        obtain ⟨q0, q1, q2, q3⟩ := ur_close au y nb
        have eg : ur_gH T = ur_ad (ur_ex T (ur_h T + 1) (ur_p T - 1)) := by unfold ur_gH; rw [nb, if_pos y]; rfl
        rw [eg] at k
        unfold wY_good_82
        rw [nI_1, ur_s1 (show 0 < ur_p T by omega)]
        refine ya_ad r (ur_h T + 1) (ur_p T - 1) h hr hL (ur_G_ex q2 (by omega)) (by rw [ur_ex_len (by omega)]; omega) ?_
        refine ur_br (fun z => ?_) (fun z => ?_)
        · rw [z] at k; exact k
        · rw [z] at k; exact k
      have bad : ur_bro T = true → post 0 := by
        intro nb
        have eg : ur_gH T = false := by unfold ur_gH; rw [nb]; rfl
        rw [eg] at k; exact k
      by_cases f2 : ur_find T 93 (ur_h T) (ur_e T) < ur_e T
      · have ep : ur_p T = ur_find T 93 (ur_h T) (ur_e T) + 1 := by unfold ur_p ur_p'; rw [if_pos y, if_pos f2]
        have e93 : ur_at T (ur_p T - 1) = 93 := by rw [ep, Nat.add_sub_cancel]; exact ur_find_is e4 f2
        have hb : ur_bro T = (decide (ur_p T < ur_e T) && !decide (ur_at T (ur_p T) = 58)) := by
          rw [eb]; unfold ur_br'
          rw [decide_eq_true y, decide_eq_false (by omega), Bool.true_and, Bool.false_or]; rfl
        refine br_t e93 (pk_eq (ur_p T) (ur_e T) (fun z => ?_) (fun z => ?_))
        · exact ok (by rw [hb, decide_eq_false (by omega)]; rfl)
        · refine ya_at r (ur_p T) h hr hL (by omega) ?_
          rw [decide_eq_true (show ur_p T < ur_e T by omega), Bool.true_and] at hb
          by_cases v : ur_at T (ur_p T) = 58
          · exact br_t v (ok (by rw [hb, decide_eq_true v]; rfl))
          · exact br_f v (bad (by rw [hb, decide_eq_false v]; rfl))
      · have ep : ur_p T = ur_e T := by unfold ur_p ur_p'; rw [if_pos y, if_neg f2]
        refine br_f (ur_find_no e4 (by omega) (by omega)) (bad ?_)
        rw [eb]; unfold ur_br'
        rw [decide_eq_true y, decide_eq_true (by omega)]; rfl
    · have nb : ur_bro T = false := by rw [eb]; unfold ur_br'; rw [decide_eq_false y]; rfl
      have eg : ur_gH T = ur_gC 0 (ur_ex T (ur_h T) (ur_p T)) := by unfold ur_gH; rw [nb, if_neg y, ur_C_s hB]; rfl
      rw [eg] at k
      exact br_f y ⟨_, yl_gC r 2 0 (ur_p T) h hr hL (by omega) _ (ur_h T) (ur_G_ex e3 (by omega)) (by rw [ur_ex_len (by omega)]; omega) k⟩
theorem ya_jstep {post : Int32 → Prop} (r j n : Nat) (hj : j < 7) {g : Bool} (hg : ∀ post' : Int32 → Prop, post' (ur_b g) → wpY_good post' (ur_y lim cnt yc yn ys ye) (nI r) (nI j))
    (kf : g = false → post (nI (4 + j))) (kt : g = true → wY_judge_2 post (nI r) lim cnt yc yn ys ye n (nI (j + 1))) : wY_judge_2 post (nI r) lim cnt yc yn ys ye (n + 1) (nI j) := by
  refine br_f (nI_ge (b := 7) hj (by decide)) (hg _ (ur_br (fun z => ?_) (fun z => nm_r (nI_1 _) (kt z))))
  have e : (4 : Int32) + nI j = nI (4 + j) := nI_add 4 j
  rw [e]; exact kf z
theorem ur_ift {g : Bool} {x y : Int32} (h : g = true) : (if g = false then x else y) = y := by rw [h]; rfl
theorem ya_judge {post : Int32 → Prop} (r : Nat) (h : ur_M 256 L yc yn) (hr : r < 11) (hL : L r = some T) (k : post (ur_J T)) : wpY_judge post (ur_y lim cnt yc yn ys ye) (nI r) := by
  refine ⟨8, ?_⟩
  unfold ur_J at k
  refine ya_jstep r 0 7 (by decide) (fun p q => ya_g0 r h hr hL q) (fun z => by rw [if_pos z] at k; exact k) (fun z => ?_)
  rw [ur_ift z] at k
  refine ya_jstep r 1 6 (by decide) (fun p q => ya_gc r 1 1 h hr hL (by omega) q) (fun z => by rw [if_pos (show ur_g1 T = false from z)] at k; exact k) (fun z => ?_)
  rw [ur_ift (show ur_g1 T = true from z)] at k
  refine ya_jstep r 2 5 (by decide) (fun p q => ya_g2 r h hr hL q) (fun z => by rw [if_pos z] at k; exact k) (fun z => ?_)
  rw [ur_ift z] at k
  refine ya_jstep r 3 4 (by decide) (fun p q => ya_g3 r h hr hL q) (fun z => by rw [if_pos z] at k; exact k) (fun z => ?_)
  rw [ur_ift z] at k
  refine ya_jstep r 4 3 (by decide) (fun p q => ya_gc r 4 2 h hr hL (by omega) q) (fun z => by rw [if_pos (show ur_g4 T = false from z)] at k; exact k) (fun z => ?_)
  rw [ur_ift (show ur_g4 T = true from z)] at k
  refine ya_jstep r 5 2 (by decide) (fun p q => ya_gc r 5 3 h hr hL (by omega) q) (fun z => by rw [if_pos (show ur_g5 T = false from z)] at k; exact k) (fun z => ?_)
  rw [ur_ift (show ur_g5 T = true from z)] at k
  refine ya_jstep r 6 1 (by decide) (fun p q => ya_gc r 6 3 h hr hL (by omega) q) (fun z => by rw [if_pos (show ur_g6 T = false from z)] at k; exact k) (fun z => ?_)
  rw [ur_ift (show ur_g6 T = true from z)] at k
  exact br_t (by decide) k
end
end
section
/-! the clean path: pure, and the component's -/
def ur_flat : List (List Int32) → List Int32
  | [] => []
  | x :: M => 47 :: (x ++ ur_flat M)
theorem ur_flat_app : ∀ (M N : List (List Int32)), ur_flat (M ++ N) = ur_flat M ++ ur_flat N
  | [], _ => rfl
  | x :: M, N => by
    show 47 :: (x ++ ur_flat (M ++ N)) = 47 :: (x ++ ur_flat M) ++ ur_flat N
    rw [ur_flat_app M N, List.cons_append, List.append_assoc]
theorem ur_flat_1 (M : List (List Int32)) (x : List Int32) : ur_flat (M ++ [x]) = ur_flat M ++ 47 :: x := by
  rw [ur_flat_app]; show _ ++ 47 :: (x ++ []) = _; rw [List.append_nil]
/-- the members behind a segment -/
def ur_nx (last : Bool) (M : List (List Int32)) (cur : List Int32) : List (List Int32) :=
  if cur = [46] then (if last = true then M ++ [[]] else M) else if cur = [46, 46] then (if last = true then M.dropLast ++ [[]] else M.dropLast) else M ++ [cur]
def ur_cl (M : List (List Int32)) (cur : List Int32) : List Int32 → List (List Int32)
  | [] => ur_nx true M cur
  | c :: l => if c = 47 then ur_cl (ur_nx false M cur) [] l else ur_cl M (cur ++ [c]) l
def ur_hd0 : List (List Int32) → Bool
  | [] :: _ :: _ => true
  | _ => false
def ur_out (au : Bool) (M : List (List Int32)) : List Int32 := if au = false ∧ ur_hd0 M = true then 47 :: 46 :: ur_flat M else ur_flat M
def ur_clean (au : Bool) : List Int32 → List Int32
  | [] => []
  | c :: l => if c = 47 then ur_out au (ur_cl [] [] l) else c :: l
def ur_no (M : List (List Int32)) : Prop := ∀ x, x ∈ M → ∀ j, j < x.length → ¬ ur_at x j = 47
theorem ur_no_app {M : List (List Int32)} {x : List Int32} (h : ur_no M) (hx : ∀ j, j < x.length → ¬ ur_at x j = 47) : ur_no (M ++ [x]) := by
  intro y hy
  rcases List.mem_append.mp hy with z | z
  · exact h y z
  · rw [List.mem_singleton] at z; subst z; exact hx
theorem ur_no_drop {M : List (List Int32)} (h : ur_no M) : ur_no M.dropLast := fun y hy => h y (List.dropLast_subset M hy)
theorem ur_no_nil : ∀ j, j < ([] : List Int32).length → ¬ ur_at [] j = 47 := fun j h => absurd h (Nat.not_lt_zero _)
theorem ur_nx_no {b : Bool} {M : List (List Int32)} {cur : List Int32} (h : ur_no M) (hc : ∀ j, j < cur.length → ¬ ur_at cur j = 47) : ur_no (ur_nx b M cur) := by
  unfold ur_nx
  split
  · split
    · exact ur_no_app h ur_no_nil
    · exact h
  · split
    · split
      · exact ur_no_app (ur_no_drop h) ur_no_nil
      · exact ur_no_drop h
    · exact ur_no_app h hc
theorem ur_flat_drop (M : List (List Int32)) : (ur_flat M.dropLast).length ≤ (ur_flat M).length := by
  rcases List.eq_nil_or_concat M with rfl | ⟨N, x, rfl⟩
  · exact Nat.le_refl _
  · rw [List.concat_eq_append, List.dropLast_concat, ur_flat_1, List.length_append]; omega
theorem ur_nx_len {b : Bool} {M : List (List Int32)} {cur : List Int32} : (ur_flat (ur_nx b M cur)).length ≤ (ur_flat M).length + 1 + cur.length := by
  have := ur_flat_drop M
  unfold ur_nx
  split
  · split
    · rw [ur_flat_1, List.length_append, List.length_cons, List.length_nil]; omega
    · omega
  · split
    · split
      · rw [ur_flat_1, List.length_append, List.length_cons, List.length_nil]; omega
      · omega
    · rw [ur_flat_1, List.length_append, List.length_cons]; omega
def ur_dc (cur : List Int32) : Int32 := if cur = [46] then 1 else if cur = [46, 46] then 2 else 0
/-- region 8 while it is cleaned: F written, P still to read from s on -/
def ur_K (m0 m : Nat → Int32) (F P : List Int32) (s : Nat) : Prop :=
  (∀ j, (j < 1024 ∨ 1152 ≤ j) → m j = m0 j) ∧ (∀ j, j < F.length → m (1024 + j) = ur_at F j) ∧ ∀ j, s ≤ j → j < P.length → m (1024 + j) = ur_at P j
theorem ur_K_s {m0 m : Nat → Int32} {F P : List Int32} {s t : Nat} (h : ur_K m0 m F P s) (hs : s ≤ t) : ur_K m0 m F P t := ⟨h.1, h.2.1, fun j a b => h.2.2 j (by omega) b⟩
theorem ur_K_l {m0 m : Nat → Int32} {F G P : List Int32} {s : Nat} (h : ur_K m0 m (F ++ G) P s) : ur_K m0 m F P s :=
  ⟨h.1, fun j hj => by rw [h.2.1 j (by rw [List.length_append]; omega), ur_at_l _ _ _ hj], h.2.2⟩
theorem ur_K_w {m0 m : Nat → Int32} {F P : List Int32} {s : Nat} {c : Int32} (h : ur_K m0 m F P s) (hF : F.length < s) (hs : s ≤ 128) : ur_K m0 (upd m (1024 + F.length) c) (F ++ [c]) P s := by
  refine ⟨fun j hj => ?_, fun j hj => ?_, fun j a b => ?_⟩
  · rw [pk_un (by omega)]; exact h.1 j hj
  · rw [List.length_append, List.length_singleton] at hj
    by_cases e : j = F.length
    · subst e; rw [pk_us]; exact (ur_at_r F [c] 0).symm
    · rw [pk_un (by omega), ur_at_l _ _ _ (by omega)]; exact h.2.1 j (by omega)
  · rw [pk_un (by omega)]; exact h.2.2 j a b
section
variable {bh lim cnt : Int32} {m l fa ta wa m0 : Nat → Int32} {L : Nat → Option (List Int32)} {T P : List Int32}
theorem xa_dot {post : Int32 → Prop} (a b : Nat) : ∀ (cur : List Int32), ur_G 1408 m a cur → a + cur.length = b → post (ur_dc cur) → wpX_dotCount post (ur_x bh lim cnt m l fa ta wa) (nI a) (nI b) := by
  intro cur hG hb k
  have hN := hG.1
  have e : nI b - nI a = nI cur.length := by rw [pk_sub (by omega)]; exact congrArg nI (by omega)
  unfold wpX_dotCount
  refine nm_r e ?_
  rw [nI_clamp (show a < 2 ^ 31 by omega)]
  match cur, hG, hb, hN, k with
  | [], hG, hb, hN, k =>
    refine br_f (by decide) ?_
    unfold wX_dotCount_22
    exact br_f (by decide) k
  | [c], hG, hb, hN, k =>
    obtain ⟨h1, h2, h3⟩ := ur_G_cons hG
    rw [h2]
    refine br_t rfl ⟨vp_in_nI h1 (by decide), ?_⟩
    by_cases z : c = 46
    · subst z; exact br_t rfl k
    · refine br_f z ?_
      unfold wX_dotCount_22
      have e0 : ur_dc [c] = 0 := by unfold ur_dc; rw [if_neg (by simp [z]), if_neg (by simp)]
      rw [e0] at k
      exact br_f (show ¬ nI 1 = 2 by decide) k
  | [c, d], hG, hb, hN, k =>
    obtain ⟨h1, h2, h3⟩ := ur_G_cons hG
    obtain ⟨h4, h5, h6⟩ := ur_G_cons h3
    refine br_f (show ¬ nI 2 = 1 by decide) ?_
    unfold wX_dotCount_22
    rw [nI_clamp (show a < 2 ^ 31 by omega), nI_1, nI_clamp (show a + 1 < 2 ^ 31 by omega), h2, h5]
    refine br_t rfl ⟨vp_in_nI h1 (by decide), ?_⟩
    by_cases z : c = 46
    · refine br_t z ⟨vp_in_nI h4 (by decide), ?_⟩
      by_cases y : d = 46
      · subst z y; exact br_t rfl k
      · have e0 : ur_dc [c, d] = 0 := by unfold ur_dc; rw [if_neg (by simp), if_neg (by simp [y])]
        rw [e0] at k
        exact br_f y k
    · have e0 : ur_dc [c, d] = 0 := by unfold ur_dc; rw [if_neg (by simp), if_neg (by simp [z])]
      rw [e0] at k
      exact br_f z k
  | c :: d :: f :: x, hG, hb, hN, k =>
    have e0 : ur_dc (c :: d :: f :: x) = 0 := by unfold ur_dc; rw [if_neg (by simp), if_neg (by simp)]
    rw [e0] at k
    simp only [List.length_cons] at hN ⊢
    refine pk_eq (x.length + 1 + 1 + 1) 1 (fun z => by omega) (fun _ => ?_)
    unfold wX_dotCount_22
    exact pk_eq (x.length + 1 + 1 + 1) 2 (fun z => by omega) (fun _ => k)
theorem xl_last {post : Int32 → Prop} (F x : List Int32) (hl : F.length + x.length < 128) (hx : ∀ j, j < x.length → ¬ ur_at x j = 47) (hm : ∀ j, j < (F ++ 47 :: x).length → m (1024 + j) = ur_at (F ++ 47 :: x) j) (k : post (nI (1024 + F.length))) :
    ∀ j, j ≤ x.length → wX_lastMember_4 post 1024 128 6 7 8 9 10 bh lim cnt m l fa ta wa (j + 1) (nI (1024 + F.length + j)) := by
  intro j
  induction j with
  | zero =>
    intro _
    refine br_f (nI_nlt (a := 1024 + F.length + 0) (b := 1024) (by omega) (by omega)) ⟨vp_in_nI (by omega) (by decide), ?_⟩
    rw [nI_clamp (show 1024 + F.length + 0 < 2 ^ 31 by omega), Nat.add_zero, hm F.length (by rw [List.length_append, List.length_cons]; omega), show ur_at (F ++ 47 :: x) F.length = 47 from ur_at_r F (47 :: x) 0]
    exact br_t rfl k
  | succ j ih =>
    intro hj
    refine br_f (nI_nlt (a := 1024 + F.length + (j + 1)) (b := 1024) (by omega) (by omega)) ⟨vp_in_nI (by omega) (by decide), ?_⟩
    rw [nI_clamp (show 1024 + F.length + (j + 1) < 2 ^ 31 by omega), Nat.add_assoc, hm (F.length + (j + 1)) (by rw [List.length_append, List.length_cons]; omega), ur_at_r]
    exact br_f (hx j (by omega)) (nm_r (e' := nI (1024 + F.length + j)) (by rw [show 1024 + (F.length + (j + 1)) = (1024 + F.length + j) + 1 by omega]; exact pk_m1 _) (ih (by omega)))
theorem xa_last {post : Int32 → Prop} (M : List (List Int32)) (hl : (ur_flat M).length ≤ 128) (hn : ur_no M) (hm : ∀ j, j < (ur_flat M).length → m (1024 + j) = ur_at (ur_flat M) j) (k : post (nI (1024 + (ur_flat M.dropLast).length))) :
    wpX_lastMember post (ur_x bh lim cnt m l fa ta wa) 1024 (nI (1024 + (ur_flat M).length)) := by
  rcases List.eq_nil_or_concat M with rfl | ⟨N, x, rfl⟩
  · exact nm_e ⟨1, br_t (by decide) k⟩
  · rw [List.concat_eq_append] at hl hn hm k ⊢
    rw [List.dropLast_concat] at k
    rw [ur_flat_1] at hl hm ⊢
    have hl' := hl
    rw [List.length_append, List.length_cons] at hl' ⊢
    unfold wpX_lastMember
    refine nm_r (e' := nI (1024 + (ur_flat N).length + x.length)) (by rw [ur_s1 (by omega)]; exact congrArg nI (by omega)) ⟨_, xl_last (ur_flat N) x (by omega) (hn x (List.mem_append.mpr (Or.inr List.mem_cons_self))) hm k x.length (Nat.le_refl _)⟩
theorem xl_c118 {post : SX → Prop} {J : Int32 → Int32 → Int32 → (Nat → Int32) → (Nat → Int32) → (Nat → Int32) → (Nat → Int32) → (Nat → Int32) → Prop} {x1 : Int32} (i n : Nat) (hi : i ≤ n) (hn : n = P.length) (h8 : n ≤ 126) :
    ∀ (d j : Nat) (F : List Int32) (m : Nat → Int32), i - j = d → j ≤ i → F.length ≤ j → ur_K m0 m F P j →
    (∀ m', ur_K m0 m' (F ++ ur_ex P j i) P i → J (nI (1024 + (F ++ ur_ex P j i).length)) (nI (1024 + (i + 1))) (nI (1024 + (i + 1))) m' l fa ta wa) →
    wX_cleanPath_118 post J x1 1024 (nI (1024 + n)) (nI (1024 + i)) 128 6 7 8 9 10 bh lim cnt (d + 1) (nI (1024 + F.length)) (nI (1024 + j)) m l fa ta wa := by
  intro d
  induction d with
  | zero =>
    intro j F m hd hji hF hK k
    have e : j = i := by omega
    subst e
    have k := k m (by rw [ur_ex_nil (Nat.le_refl _), List.append_nil]; exact hK)
    rw [ur_ex_nil (Nat.le_refl _), List.append_nil] at k
    exact br_t (nI_le (by omega) (by omega)) (nm_r (nI_1 _) (nm_r (nI_1 _) k))
  | succ d ih =>
    intro j F m hd hji hF hK k
    refine br_f (nI_ge (by omega) (by omega)) ⟨vp_in_nI (by omega) (by decide), vp_in_nI (by omega) (by decide), ?_⟩
    rw [nI_clamp (show 1024 + j < 2 ^ 31 by omega), nI_clamp (show 1024 + F.length < 2 ^ 31 by omega), hK.2.2 j (Nat.le_refl _) (by omega)]
    have K2 := ur_K_w (c := ur_at P j) (ur_K_s hK (Nat.le_succ j)) (by omega) (by omega)
    refine nm_e (nm_r (e' := nI (1024 + (F ++ [ur_at P j]).length)) (by rw [nI_1, List.length_append]; rfl) (nm_r (nI_1 _) ?_))
    refine ih (j + 1) (F ++ [ur_at P j]) _ (by omega) (by omega) (by rw [List.length_append, List.length_singleton]; omega) K2 ?_
    rw [List.append_assoc, List.singleton_append, ← ur_ex_cons (by omega) (by omega)]
    exact k
theorem xl_c97 {post : SX → Prop} {J : Int32 → Int32 → Int32 → (Nat → Int32) → (Nat → Int32) → (Nat → Int32) → (Nat → Int32) → (Nat → Int32) → Prop} {x1 : Int32} (s i n : Nat) (F : List Int32) (hs : s ≤ i) (hi : i ≤ n) (hn : n = P.length) (h8 : n ≤ 126) (hF : F.length < s) (hK : ur_K m0 m F P s)
    (k0 : ur_dc (ur_ex P s i) = 0 → ∀ m', ur_K m0 m' (F ++ 47 :: ur_ex P s i) P i → J (nI (1024 + (F ++ 47 :: ur_ex P s i).length)) (nI (1024 + (i + 1))) (nI (1024 + (i + 1))) m' l fa ta wa)
    (k1 : ¬ ur_dc (ur_ex P s i) = 0 → i = n → ∀ m', ur_K m0 m' (F ++ [47]) P i → J (nI (1024 + (F ++ [47]).length)) (nI (1024 + (i + 1))) (nI (1024 + (i + 1))) m' l fa ta wa)
    (k2 : ¬ ur_dc (ur_ex P s i) = 0 → i ≠ n → J (nI (1024 + F.length)) (nI (1024 + (i + 1))) (nI (1024 + (i + 1))) m l fa ta wa) :
    wX_cleanPath_97 post J x1 1024 (nI (1024 + n)) (nI (1024 + F.length)) (nI (1024 + s)) (nI (1024 + i)) (ur_dc (ur_ex P s i)) 128 6 7 8 9 10 bh lim cnt m l fa ta wa := by
  have hv : vp_in (nI (1024 + F.length)) 1408 := vp_in_nI (by omega) (by decide)
  have Kw := ur_K_w (c := 47) hK hF (by omega)
  unfold wX_cleanPath_97
  rw [nI_clamp (show 1024 + F.length < 2 ^ 31 by omega)]
  refine br_c (fun z => ⟨hv, nm_e (nm_r (e' := nI (1024 + (F ++ [47]).length)) (by rw [nI_1, List.length_append]; rfl) ?_)⟩) (fun z => pk_eq (1024 + i) (1024 + n) (fun y => ⟨hv, nm_e (nm_r (e' := nI (1024 + (F ++ [47]).length)) (by rw [nI_1, List.length_append]; rfl) (nm_r (nI_1 _) (nm_r (nI_1 _) ?_)))⟩) (fun y => ?_))
  · refine ⟨_, xl_c118 i n hi hn h8 (i - s) s (F ++ [47]) _ rfl hs (by rw [List.length_append, List.length_singleton]; omega) Kw (fun m' K' => ?_)⟩
    rw [List.append_assoc, List.singleton_append] at K' ⊢
    exact k0 z m' K'
  · exact k1 z (by omega) _ (ur_K_s Kw hs)
  · exact nm_r (nI_1 _) (nm_r (nI_1 _) (k2 z (by omega)))
theorem xl_c72 {post : SX → Prop} {J : Int32 → Int32 → Int32 → (Nat → Int32) → (Nat → Int32) → (Nat → Int32) → (Nat → Int32) → (Nat → Int32) → Prop} {x1 : Int32} (s i n : Nat) (M : List (List Int32)) (hs : s ≤ i) (hi : i ≤ n) (hn : n = P.length) (h8 : n ≤ 126) (hF : (ur_flat M).length < s) (hno : ur_no M) (hK : ur_K m0 m (ur_flat M) P s)
    (k : ∀ m', ur_K m0 m' (ur_flat (ur_nx (decide (i = n)) M (ur_ex P s i))) P (i + 1) → J (nI (1024 + (ur_flat (ur_nx (decide (i = n)) M (ur_ex P s i))).length)) (nI (1024 + (i + 1))) (nI (1024 + (i + 1))) m' l fa ta wa) :
    wX_cleanPath_72 post J x1 1024 (nI (1024 + n)) (nI (1024 + (ur_flat M).length)) (nI (1024 + s)) (nI (1024 + i)) 128 6 7 8 9 10 bh lim cnt m l fa ta wa := by
  have el : (ur_ex P s i).length = i - s := ur_ex_len (by omega)
  have G : ur_G 1408 m (1024 + s) (ur_ex P s i) := by
    refine ⟨by rw [el]; omega, fun j hj => ?_⟩
    rw [el] at hj
    rw [ur_ex_at hj, Nat.add_assoc]; exact hK.2.2 (s + j) (by omega) (by omega)
  unfold wX_cleanPath_72
  refine xa_dot (1024 + s) (1024 + i) (ur_ex P s i) G (by rw [el]; omega) ?_
  by_cases c1 : ur_ex P s i = [46]
  · have d1 : ur_dc (ur_ex P s i) = 1 := by unfold ur_dc; rw [if_pos c1]
    have en : ur_nx (decide (i = n)) M (ur_ex P s i) = if i = n then M ++ [[]] else M := by
      unfold ur_nx; rw [if_pos c1]
      by_cases q : i = n
      · rw [decide_eq_true q, if_pos rfl, if_pos q]
      · rw [decide_eq_false q, if_neg (by decide), if_neg q]
    rw [en] at k
    refine br_f (by rw [d1]; decide) (xl_c97 s i n _ hs hi hn h8 hF hK (fun z => absurd z (by rw [d1]; decide)) (fun _ y m' K' => ?_) (fun _ y => ?_))
    · rw [if_pos y, ur_flat_1] at k; exact k m' (ur_K_s K' (Nat.le_succ i))
    · rw [if_neg y] at k; exact k m (ur_K_s hK (by omega))
  · by_cases c2 : ur_ex P s i = [46, 46]
    · have d2 : ur_dc (ur_ex P s i) = 2 := by unfold ur_dc; rw [if_neg c1, if_pos c2]
      have en : ur_nx (decide (i = n)) M (ur_ex P s i) = if i = n then M.dropLast ++ [[]] else M.dropLast := by
        unfold ur_nx; rw [if_neg c1, if_pos c2]
        by_cases q : i = n
        · rw [decide_eq_true q, if_pos rfl, if_pos q]
        · rw [decide_eq_false q, if_neg (by decide), if_neg q]
      rw [en] at k
      have fd := ur_flat_drop M
      have Kd : ur_K m0 m (ur_flat M.dropLast) P s := by
        rcases List.eq_nil_or_concat M with rfl | ⟨N, x, rfl⟩
        · exact hK
        · rw [List.concat_eq_append] at hK ⊢
          rw [List.dropLast_concat]; rw [ur_flat_1] at hK
          exact ur_K_l hK
      refine br_t d2 (xa_last M (by omega) hno hK.2.1 ?_)
      refine xl_c97 s i n _ hs hi hn h8 (by omega) Kd (fun z => absurd z (by rw [d2]; decide)) (fun _ y m' K' => ?_) (fun _ y => ?_)
      · rw [if_pos y, ur_flat_1] at k; exact k m' (ur_K_s K' (Nat.le_succ i))
      · rw [if_neg y] at k; exact k m (ur_K_s Kd (by omega))
    · have d0 : ur_dc (ur_ex P s i) = 0 := by unfold ur_dc; rw [if_neg c1, if_neg c2]
      have en : ur_nx (decide (i = n)) M (ur_ex P s i) = M ++ [ur_ex P s i] := by unfold ur_nx; rw [if_neg c1, if_neg c2]
      rw [en, ur_flat_1] at k
      refine br_f (by rw [d0]; decide) (xl_c97 s i n _ hs hi hn h8 hF hK (fun z m' K' => k m' (ur_K_s K' (Nat.le_succ i))) (fun z => absurd d0 z) (fun z => absurd d0 z))
end
end
section
/-! the component's clean path, II -/
theorem ur_K_M {m0 m l : Nat → Int32} {L : Nat → Option (List Int32)} {F P : List Int32} {s : Nat} (h : ur_M 128 L m0 l) (hK : ur_K m0 m F P s) (hF : F.length ≤ 128) : ur_M 128 (ur_s L 8 (some F)) m (upd l 8 (nI F.length)) := by
  intro r hr
  by_cases e : r = 8
  · subst e
    refine ⟨fun z => (by rw [ur_s_e] at z; cases z), fun t ht => ?_⟩
    rw [ur_s_e] at ht
    cases ht
    exact ⟨pk_us, hF, fun i hi => hK.2.1 i hi⟩
  · rw [ur_s_n e]
    refine ⟨fun z => by rw [pk_un e]; exact (h r hr).1 z, fun t ht => ?_⟩
    have q := (h r hr).2 t ht
    have q2 := q.2.1
    refine ⟨by rw [pk_un e]; exact q.1, q.2.1, fun i hi => ?_⟩
    rw [hK.1 _ (by omega)]; exact q.2.2 i hi
def ur_gd (F : List Int32) : List Int32 := if 2 ≤ F.length ∧ ur_at F 0 = 47 ∧ ur_at F 1 = 47 then 47 :: 46 :: F else F
theorem ur_gd_out {M : List (List Int32)} (hno : ur_no M) : ur_gd (ur_flat M) = ur_out false M := by
  unfold ur_gd ur_out
  match M, hno with
  | [], _ => rw [if_neg (by decide), if_neg (by intro z; exact absurd z.2 (by decide))]
  | [[]], _ => rw [if_neg (by decide), if_neg (by intro z; exact absurd z.2 (by decide))]
  | [] :: y :: N, _ =>
    have q : 2 ≤ (ur_flat ([] :: y :: N)).length ∧ ur_at (ur_flat ([] :: y :: N)) 0 = 47 ∧ ur_at (ur_flat ([] :: y :: N)) 1 = 47 := by
      refine ⟨?_, rfl, rfl⟩
      show 2 ≤ (47 :: 47 :: (y ++ ur_flat N)).length
      simp only [List.length_cons]; omega
    rw [if_pos q, if_pos ⟨rfl, rfl⟩]
  | (c :: x) :: N, h =>
    have hc : ¬ c = 47 := h (c :: x) List.mem_cons_self 0 (by simp)
    rw [if_neg (fun z => hc z.2.2), if_neg]
    intro z; exact absurd (show false = true from z.2) (by decide)
section
variable {bh lim cnt : Int32} {m l fa ta wa m0 : Nat → Int32} {L : Nat → Option (List Int32)} {T P F : List Int32}
theorem xl_guard {post : SX → Prop} (n : Nat) (hn : n = F.length) (h8 : n ≤ 126) (h : ur_M 128 L m0 l)
    (k : ∀ m' l', ur_M 128 (ur_s L 8 (some (47 :: 46 :: F))) m' l' → post (ur_x bh lim cnt m' l' fa ta wa)) :
    ∀ (i : Nat) (m : Nat → Int32), i ≤ n → (∀ j, (j < 1024 ∨ 1152 ≤ j) → m j = m0 j) → (∀ j, j < i → m (1024 + j) = ur_at F j) → (∀ j, i ≤ j → j < n → m (1024 + j + 2) = ur_at F j) →
    wX_guardSlashes_57 post 1024 (nI n) 128 6 7 8 9 10 bh lim cnt (i + 1) (nI (1023 + i)) m l fa ta wa := by
  intro i
  induction i with
  | zero =>
    intro m hi h1 h2 h3
    have ev : ((1024 : Int32) + 1).toNatClampNeg = 1025 := by decide
    have e0 : (1024 : Int32).toNatClampNeg = 1024 := by decide
    refine br_t (by decide) ⟨vp_in_iff.mpr (by decide), ?_⟩
    rw [ev, e0]
    refine nm_e ⟨vp_in_iff.mpr (by decide), nm_e (nm_r (e' := upd l 8 (nI (47 :: 46 :: F).length)) ?_ ?_)⟩
    · rw [ur_p2, hn]; rfl
    · refine k _ _ (ur_K_M (P := []) (s := 0) h ⟨fun j hj => ?_, fun j hj => ?_, fun j _ hj => absurd hj (Nat.not_lt_zero _)⟩ (by simp only [List.length_cons]; omega))
      · rw [pk_un (by omega), pk_un (by omega)]; exact h1 j hj
      · match j, hj with
        | 0, _ => rw [pk_un (by omega), pk_us]; rfl
        | 1, _ => rw [pk_us]; rfl
        | j + 2, hj =>
          simp only [List.length_cons] at hj
          rw [pk_un (by omega), pk_un (by omega)]
          exact h3 j (by omega) (by omega)
  | succ i ih =>
    intro m hi h1 h2 h3
    refine br_f (nI_nlt (a := 1023 + (i + 1)) (b := 1024) (by omega) (by omega)) ⟨vp_in_nI (by omega) (by decide), ?_⟩
    rw [ur_p2, nI_clamp (show 1023 + (i + 1) + 2 < 2 ^ 31 by omega), nI_clamp (show 1023 + (i + 1) < 2 ^ 31 by omega), show 1023 + (i + 1) = 1024 + i by omega, h2 i (by omega)]
    refine ⟨vp_in_nI (by omega) (by decide), nm_e (nm_r (e' := nI (1023 + i)) ?_ ?_)⟩
    · rw [show 1024 + i = (1023 + i) + 1 by omega]; exact pk_m1 _
    · refine ih _ (by omega) (fun j hj => ?_) (fun j hj => ?_) (fun j a b => ?_)
      · rw [pk_un (by omega)]; exact h1 j hj
      · rw [pk_un (by omega)]; exact h2 j (by omega)
      · by_cases e : j = i
        · subst e; exact pk_us
        · rw [pk_un (by omega)]; exact h3 j (by omega) b
theorem xa_guard {post : SX → Prop} (h : ur_M 128 L m l) (hL : L 8 = some F) (h8 : F.length ≤ 126)
    (k : ∀ m' l', ur_M 128 (ur_s L 8 (some (ur_gd F))) m' l' → post (ur_x bh lim cnt m' l' fa ta wa)) : wpX_guardSlashes post (ur_x bh lim cnt m l fa ta wa) := by
  have el : l 8 = nI F.length := ur_M_len h (by decide) hL
  have no : ¬ (2 ≤ F.length ∧ ur_at F 0 = 47 ∧ ur_at F 1 = 47) → post (ur_x bh lim cnt m l fa ta wa) := by
    intro z
    have e : ur_gd F = F := if_neg z
    have k := k m l
    rw [e, ur_s_id hL] at k
    exact k h
  unfold wpX_guardSlashes
  refine nm_r el (pk_lt F.length 2 (fun z => no (fun y => by omega)) (fun z => ?_))
  rw [ur_p2]
  refine pk_lt 128 (F.length + 2) (fun y => by omega) (fun y => ?_)
  have e0 : m 1024 = ur_at F 0 := ur_M_at h (r := 8) (by decide) hL (i := 0) (by omega)
  have e1 : m ((1024 : Int32) + 1).toNatClampNeg = ur_at F 1 := ur_M_at h (r := 8) (by decide) hL (i := 1) (by omega)
  rw [e0, e1]
  by_cases a : ur_at F 0 = 47
  · refine br_t a ⟨vp_in_iff.mpr (by decide), ?_⟩
    by_cases b : ur_at F 1 = 47
    · refine br_t b (nm_r (e' := nI (1023 + F.length)) ?_ ⟨F.length + 1, ?_⟩)
      · have : (1024 : Int32) + nI F.length = nI (1024 + F.length) := nI_add 1024 _
        rw [this, ur_s1 (by omega)]; exact congrArg nI (by omega)
      · have e : ur_gd F = 47 :: 46 :: F := if_pos ⟨z, a, b⟩
        rw [e] at k
        exact xl_guard F.length rfl h8 h k F.length m (Nat.le_refl _) (fun _ _ => rfl) (fun j hj => ur_M_at h (r := 8) (by decide) hL hj) (fun j a b => by omega)
    · exact br_f b (no (fun w => b w.2.2))
  · exact br_f a (no (fun w => a w.2.1))
theorem xl_c46 {post : SX → Prop} {au : Bool} (n : Nat) (hn : n = P.length) (h8 : n ≤ 124) (h : ur_M 128 L m0 l) :
    ∀ (x : List Int32) (i s : Nat) (M : List (List Int32)) (m : Nat → Int32), x = ur_ex P i n → i ≤ n → s ≤ i → (ur_flat M).length < s → ur_no M → (∀ j, s ≤ j → j < i → ¬ ur_at P j = 47) → ur_K m0 m (ur_flat M) P s →
    (∀ m' l', ur_M 128 (ur_s L 8 (some (ur_out au (ur_cl M (ur_ex P s i) x)))) m' l' → post (ur_x bh lim cnt m' l' fa ta wa)) →
    wX_cleanPath_46 post (ur_b au) 1024 (nI (1024 + n)) 128 6 7 8 9 10 bh lim cnt (x.length + 2) (nI (1024 + (ur_flat M).length)) (nI (1024 + s)) (nI (1024 + i)) m l fa ta wa
  | [], i, s, M, m, hx, hi, hs, hF, hno, hc, hK, k => by
    have e : i = n := by
      rcases Nat.lt_or_ge i n with z | z
      · rw [ur_ex_cons z (by omega)] at hx; cases hx
      · omega
    subst e
    have el : (ur_ex P s i).length = i - s := ur_ex_len (by omega)
    have hcu : ∀ j, j < (ur_ex P s i).length → ¬ ur_at (ur_ex P s i) j = 47 := by
      intro j hj
      rw [el] at hj
      rw [ur_ex_at hj]; exact hc _ (by omega) (by omega)
    refine br_f (nI_nlt (Nat.le_refl _) (by omega)) (br_t rfl (xl_c72 s i i M hs (Nat.le_refl _) hn (by omega) hF hno hK (fun m' K' => ?_)))
    rw [decide_eq_true rfl] at K' ⊢
    have el2 := ur_nx_len (b := true) (M := M) (cur := ur_ex P s i)
    have hno2 := ur_nx_no (b := true) hno hcu
    generalize hM2 : ur_nx true M (ur_ex P s i) = M2 at K' el2 hno2 ⊢
    have ek : ur_cl M (ur_ex P s i) [] = M2 := hM2
    rw [ek] at k
    refine br_t (nI_lt (by omega) (by omega)) (nm_r (e' := upd l 8 (nI (ur_flat M2).length)) ?_ ?_)
    · have : nI (1024 + (ur_flat M2).length) - 1024 = nI (1024 + (ur_flat M2).length - 1024) := pk_sub (b := 1024) (by omega)
      rw [this, Nat.add_sub_cancel_left]
    · have HM := ur_K_M h K' (by omega)
      refine ur_br (fun z => ?_) (fun z => ?_)
      · rw [z] at k
        refine xa_guard HM ur_s_e (by omega) (fun m'' l'' h'' => ?_)
        rw [ur_s_s, ur_gd_out hno2] at h''
        exact k m'' l'' h''
      · have eo : ur_out au M2 = ur_flat M2 := by unfold ur_out; rw [if_neg]; intro w; rw [z] at w; exact absurd w.1 (by decide)
        rw [eo] at k
        exact k _ _ HM
  | c :: x, i, s, M, m, hx, hi, hs, hF, hno, hc, hK, k => by
    have hlt : i < n := by
      rcases Nat.lt_or_ge i n with z | z
      · exact z
      · rw [ur_ex_nil z] at hx; cases hx
    have hx' := hx
    rw [ur_ex_cons hlt (by omega)] at hx'
    have hc1 : c = ur_at P i := (List.cons.inj hx').1
    have hx1 : x = ur_ex P (i + 1) n := (List.cons.inj hx').2
    have el : (ur_ex P s i).length = i - s := ur_ex_len (by omega)
    have hcu : ∀ j, j < (ur_ex P s i).length → ¬ ur_at (ur_ex P s i) j = 47 := by
      intro j hj
      rw [el] at hj
      rw [ur_ex_at hj]; exact hc _ (by omega) (by omega)
    refine br_f (nI_nlt (by omega) (by omega)) (br_f (fun z => by have := (nI_eq (by omega) (by omega)).mp z; omega) ⟨vp_in_nI (by omega) (by decide), ?_⟩)
    rw [nI_clamp (show 1024 + i < 2 ^ 31 by omega), hK.2.2 i hs (by omega), ← hc1]
    rw [ur_cl] at k
    by_cases z : c = 47
    · rw [if_pos z] at k
      refine br_t z (xl_c72 s i n M hs hi hn (by omega) hF hno hK (fun m' K' => ?_))
      rw [decide_eq_false (by omega)] at K' ⊢
      have el2 := ur_nx_len (b := false) (M := M) (cur := ur_ex P s i)
      refine xl_c46 n hn h8 h x (i + 1) (i + 1) _ m' hx1 (by omega) (Nat.le_refl _) (by omega) (ur_nx_no hno hcu) (fun j a b => by omega) K' ?_
      rw [ur_ex_nil (Nat.le_refl _)]
      exact k
    · rw [if_neg z] at k
      refine br_f z (nm_r (nI_1 _) ?_)
      refine xl_c46 n hn h8 h x (i + 1) s M m hx1 (by omega) (by omega) hF hno (fun j a b => ?_) hK ?_
      · by_cases e : j = i
        · subst e; rw [← hc1]; exact z
        · exact hc j a (by omega)
      · rw [ur_ex_snoc hs (by omega), ← hc1]
        exact k
/-- cleanPath -/
theorem xa_clean {post : SX → Prop} {au : Bool} (h : ur_M 128 L m l) (hL : L 8 = some P) (h8 : P.length ≤ 124)
    (k : ∀ m' l', ur_M 128 (ur_s L 8 (some (ur_clean au P))) m' l' → post (ur_x bh lim cnt m' l' fa ta wa)) : wpX_cleanPath post (ur_x bh lim cnt m l fa ta wa) (ur_b au) := by
  have el : l 8 = nI P.length := ur_M_len h (by decide) hL
  unfold wpX_cleanPath
  refine nm_r el ?_
  cases P with
  | nil =>
    have k := k m l
    rw [show ur_clean au [] = [] from rfl, ur_s_id hL] at k
    exact br_t (by decide) (k h)
  | cons c x =>
    rw [List.length_cons] at h8
    refine br_f (nI_nle (by rw [List.length_cons]; omega) (by rw [List.length_cons]; omega)) ?_
    have e0 : m 1024 = c := ur_M_at h (r := 8) (by decide) hL (i := 0) (by simp)
    rw [e0]
    by_cases z : c = 47
    · refine br_t z (nm_r (e' := nI (1024 + (c :: x).length)) (nI_add 1024 _) (nm_r (e' := nI (1024 + 1)) (nI_1 1024) (nm_r (e' := nI (1024 + 1)) (nI_1 1024) ⟨x.length + 2, ?_⟩)))
      have ex : x = ur_ex (c :: x) 1 (c :: x).length := by
        have := ur_ex_full (c :: x)
        rw [ur_ex_cons (by simp) (Nat.le_refl _)] at this
        exact (List.cons.inj this).2.symm
      refine xl_c46 (P := c :: x) (c :: x).length rfl (by rw [List.length_cons]; omega) h x 1 1 [] m ex (by simp) (Nat.le_refl _) (by decide) (fun y hy => absurd hy List.not_mem_nil) (fun j a b => by omega) ⟨fun _ _ => rfl, fun j hj => absurd hj (Nat.not_lt_zero _), fun j _ hj => ur_M_at h (r := 8) (by decide) hL hj⟩ ?_
      rw [ur_ex_nil (Nat.le_refl _)]
      have ec : ur_clean au (c :: x) = ur_out au (ur_cl [] [] x) := if_pos z
      rw [ec] at k
      exact k
    · have k := k m l
      rw [show ur_clean au (c :: x) = c :: x from if_neg z, ur_s_id hL] at k
      exact br_f z (k h)
end
end
section
/-! the reference's clean -/
theorem ur_cl_len : ∀ (x : List Int32) (M : List (List Int32)) (cur : List Int32), (ur_flat (ur_cl M cur x)).length ≤ (ur_flat M).length + 1 + cur.length + x.length
  | [], M, cur => by have := ur_nx_len (b := true) (M := M) (cur := cur); rw [ur_cl, List.length_nil]; omega
  | c :: x, M, cur => by
    rw [ur_cl, List.length_cons]
    split
    · have a := ur_nx_len (b := false) (M := M) (cur := cur)
      have b := ur_cl_len x (ur_nx false M cur) []
      rw [List.length_nil] at b; omega
    · have b := ur_cl_len x M (cur ++ [c])
      rw [List.length_append, List.length_singleton] at b; omega
theorem ur_flat_ge : ∀ (M : List (List Int32)), M.length ≤ (ur_flat M).length
  | [] => Nat.le_refl _
  | x :: M => by
    have := ur_flat_ge M
    show M.length + 1 ≤ (47 :: (x ++ ur_flat M)).length
    rw [List.length_cons, List.length_append]; omega
theorem ur_one {T : List Int32} {s i : Nat} (hs : s ≤ i) (hi : i ≤ T.length) : ur_ex T s i = [46] ↔ (i - s = 1 ∧ ur_at T s = 46) := by
  constructor
  · intro h
    have e := ur_ex_len (a := s) hi
    rw [h] at e
    refine ⟨e.symm, ?_⟩
    have := ur_ex_at (t := T) (a := s) (b := i) (i := 0) (by rw [← e]; decide)
    rw [h] at this; exact this.symm
  · intro ⟨h1, h2⟩
    rw [ur_ex_cons (by omega) hi, h2, ur_ex_nil (by omega)]
theorem ur_two {T : List Int32} {s i : Nat} (hs : s ≤ i) (hi : i ≤ T.length) : ur_ex T s i = [46, 46] ↔ (i - s = 2 ∧ ur_at T s = 46 ∧ ur_at T (s + 1) = 46) := by
  constructor
  · intro h
    have e := ur_ex_len (a := s) hi
    rw [h] at e
    have a0 := ur_ex_at (t := T) (a := s) (b := i) (i := 0) (by rw [← e]; decide)
    have a1 := ur_ex_at (t := T) (a := s) (b := i) (i := 1) (by rw [← e]; decide)
    rw [h] at a0 a1
    exact ⟨e.symm, a0.symm, a1.symm⟩
  · intro ⟨h1, h2, h3⟩
    rw [ur_ex_cons (by omega) hi, h2, ur_ex_cons (by omega) hi, h3, ur_ex_nil (by omega)]
/-- the members' borders -/
def ur_me (T : List Int32) (M : List (List Int32)) (ys ye : Nat → Int32) : Prop := ∀ j, j < M.length → ∃ a b, ys j = nI a ∧ ye j = nI b ∧ a ≤ b ∧ b ≤ T.length ∧ M[j]? = some (ur_ex T a b)
theorem ur_me_push {T : List Int32} {M : List (List Int32)} {ys ye : Nat → Int32} (h : ur_me T M ys ye) {a b : Nat} (hab : a ≤ b) (hb : b ≤ T.length) : ur_me T (M ++ [ur_ex T a b]) (upd ys M.length (nI a)) (upd ye M.length (nI b)) := by
  intro j hj
  rw [List.length_append, List.length_singleton] at hj
  by_cases e : j = M.length
  · subst e
    exact ⟨a, b, pk_us, pk_us, hab, hb, List.getElem?_concat_length⟩
  · obtain ⟨a', b', h1, h2, h3, h4, h5⟩ := h j (by omega)
    exact ⟨a', b', by rw [pk_un e]; exact h1, by rw [pk_un e]; exact h2, h3, h4, by rw [List.getElem?_append_left (by omega)]; exact h5⟩
theorem ur_me_drop {T : List Int32} {M : List (List Int32)} {ys ye : Nat → Int32} (h : ur_me T M ys ye) : ur_me T M.dropLast ys ye := by
  intro j hj
  rw [List.length_dropLast] at hj
  obtain ⟨a', b', h1, h2, h3, h4, h5⟩ := h j (by omega)
  exact ⟨a', b', h1, h2, h3, h4, by rw [List.getElem?_dropLast, if_pos hj]; exact h5⟩
theorem ur_drop_c : ∀ (M : List (List Int32)) (j : Nat) (x : List Int32), M[j]? = some x → M.drop j = x :: M.drop (j + 1)
  | [], j, x, h => by simp at h
  | y :: M, 0, x, h => by simp at h; subst h; rfl
  | y :: M, j + 1, x, h => ur_drop_c M j x (by simpa using h)
section
variable {lim cnt : Int32} {yc yn ys ye : Nat → Int32} {L : Nat → Option (List Int32)} {T D : List Int32}
theorem yl_c196 {post : SY → Prop} {J : Int32 → Int32 → Int32 → (Nat → Int32) → (Nat → Int32) → (Nat → Int32) → (Nat → Int32) → Prop} {x1 x3 x4 x5 z0 : Int32} (q i : Nat) (hq : q < 256)
    (k : J (nI (q + 1)) (nI (i + 1)) (nI (i + 1)) yc yn (upd ys q z0) (upd ye q (nI i))) : wY_clean_196 post J x1 x3 x4 x5 (nI q) (nI i) z0 (nI q) lim cnt yc yn ys ye := by
  have hv : vp_in (nI q) 256 := vp_in_nI hq (by decide)
  unfold wY_clean_196
  rw [nI_clamp (show q < 2 ^ 31 by omega)]
  exact ⟨hv, nm_e ⟨hv, nm_e (nm_r (nI_1 _) (nm_r (nI_1 _) (nm_r (nI_1 _) k)))⟩⟩
theorem yl_c149 {post : SY → Prop} {J : Int32 → Int32 → Int32 → (Nat → Int32) → (Nat → Int32) → (Nat → Int32) → (Nat → Int32) → Prop} {x1 x4 x5 : Int32} (q s i z : Nat) (hq : q < 250) (hi : i < 2000) (hz : z < 2000) {b1 b2 : Bool}
    (k0 : b1 = false → b2 = false → J (nI (q + 1)) (nI (i + 1)) (nI (i + 1)) yc yn (upd ys q (nI s)) (upd ye q (nI i)))
    (k1 : (b1 = true ∨ b2 = true) → i = z → J (nI (q + 1)) (nI (i + 1)) (nI (i + 1)) yc yn (upd ys q (nI i)) (upd ye q (nI i)))
    (k2 : (b1 = true ∨ b2 = true) → i ≠ z → J (nI q) (nI (i + 1)) (nI (i + 1)) yc yn ys ye) :
    wY_clean_149 post J x1 (nI z) x4 x5 (nI q) (nI s) (nI i) (ur_b b1) (ur_b b2) lim cnt yc yn ys ye := by
  have hn : ¬ (256 : Int32) ≤ nI q := nI_ge (b := 256) (by omega) (by decide)
  have h159 : (b1 = true ∨ b2 = true) → wY_clean_159 post J x1 (nI z) x4 x5 (nI q) (nI s) (nI i) (ur_b b1) (ur_b b2) lim cnt yc yn ys ye := by
    intro hb
    unfold wY_clean_159
    refine pk_eq i z (fun e => ?_) (fun e => nm_r (nI_1 _) (nm_r (nI_1 _) (k2 hb e)))
    unfold wY_clean_165 wY_clean_189
    refine br_f hn (ur_br (fun y => ?_) (fun y => yl_c196 q i (by omega) (k1 hb e)))
    rcases hb with w | w
    · rw [w] at y; cases y
    · rw [w]; exact br_f (by decide) (yl_c196 q i (by omega) (k1 (Or.inr w) e))
  unfold wY_clean_149
  refine ur_br (fun y1 => ur_br (fun y2 => ?_) (fun y2 => h159 (Or.inr y2))) (fun y1 => h159 (Or.inl y1))
  unfold wY_clean_165
  rw [y1, y2]
  exact br_f hn (br_t rfl (br_t rfl (yl_c196 q i (by omega) (k0 y1 y2))))
theorem yl_c134 {post : SY → Prop} {J : Int32 → Int32 → Int32 → (Nat → Int32) → (Nat → Int32) → (Nat → Int32) → (Nat → Int32) → Prop} {x1 x4 x5 : Int32} (M : List (List Int32)) (s i z : Nat) (hs : s ≤ i) (hiz : i ≤ z) (hz : z ≤ T.length) (h8 : T.length ≤ 256) (hq : M.length < 250) (hm : ur_me T M ys ye) {b1 b2 : Bool}
    (hb1 : b1 = true ↔ ur_ex T s i = [46]) (hb2 : b2 = true ↔ ur_ex T s i = [46, 46])
    (k : ∀ ys' ye', ur_me T (ur_nx (decide (i = z)) M (ur_ex T s i)) ys' ye' → J (nI (ur_nx (decide (i = z)) M (ur_ex T s i)).length) (nI (i + 1)) (nI (i + 1)) yc yn ys' ye') :
    wY_clean_134 post J x1 (nI z) x4 x5 (nI M.length) (nI s) (nI i) (ur_b b1) (ur_b b2) lim cnt yc yn ys ye := by
  have en : ([] : List Int32) = ur_ex T i i := (ur_ex_nil (Nat.le_refl _)).symm
  unfold wY_clean_134
  refine ur_br (fun y2 => ?_) (fun y2 => ?_)
  · rw [y2]
    have n2 : ¬ ur_ex T s i = [46, 46] := fun w => by rw [hb2.mpr w] at y2; cases y2
    refine yl_c149 (b2 := false) M.length s i z hq (by omega) (by omega) (fun y1 _ => ?_) (fun y1 e => ?_) (fun y1 e => ?_)
    · have n1 : ¬ ur_ex T s i = [46] := fun w => by rw [hb1.mpr w] at y1; cases y1
      have e2 : ur_nx (decide (i = z)) M (ur_ex T s i) = M ++ [ur_ex T s i] := by unfold ur_nx; rw [if_neg n1, if_neg n2]
      rw [e2] at k
      have := k _ _ (ur_me_push hm hs (by omega))
      rw [List.length_append] at this
      exact this
    · have y1 : b1 = true := y1.elim id (fun w => by cases w)
      have e2 : ur_nx (decide (i = z)) M (ur_ex T s i) = M ++ [ur_ex T i i] := by unfold ur_nx; rw [if_pos (hb1.mp y1), decide_eq_true e, if_pos rfl, en]
      rw [e2] at k
      have := k _ _ (ur_me_push hm (Nat.le_refl i) (by omega))
      rw [List.length_append] at this
      exact this
    · have y1 : b1 = true := y1.elim id (fun w => by cases w)
      have e2 : ur_nx (decide (i = z)) M (ur_ex T s i) = M := by unfold ur_nx; rw [if_pos (hb1.mp y1), decide_eq_false e, if_neg (by decide)]
      rw [e2] at k
      exact k _ _ hm
  · have c2 := hb2.mp y2
    have n1 : ¬ ur_ex T s i = [46] := by rw [c2]; decide
    have y1 : b1 = false := by cases w : b1; rfl; exact absurd (hb1.mp w) n1
    rw [y1, y2]
    have fin : wY_clean_149 post J x1 (nI z) x4 x5 (nI M.dropLast.length) (nI s) (nI i) (ur_b false) (ur_b true) lim cnt yc yn ys ye := by
      have hm2 := ur_me_drop hm
      refine yl_c149 M.dropLast.length s i z (by rw [List.length_dropLast]; omega) (by omega) (by omega) (fun _ w => by cases w) (fun _ e => ?_) (fun _ e => ?_)
      · have e2 : ur_nx (decide (i = z)) M (ur_ex T s i) = M.dropLast ++ [ur_ex T i i] := by unfold ur_nx; rw [if_neg n1, if_pos c2, decide_eq_true e, if_pos rfl, en]
        rw [e2] at k
        have := k _ _ (ur_me_push hm2 (Nat.le_refl i) (by omega))
        rw [List.length_append] at this
        exact this
      · have e2 : ur_nx (decide (i = z)) M (ur_ex T s i) = M.dropLast := by unfold ur_nx; rw [if_neg n1, if_pos c2, decide_eq_false e, if_neg (by decide)]
        rw [e2] at k
        exact k _ _ hm2
    refine pk_le M.length 0 (fun w => ?_) (fun w => ?_)
    · have : M.dropLast.length = M.length := by rw [List.length_dropLast]; omega
      rw [this] at fin; exact fin
    · refine nm_r (e' := nI M.dropLast.length) ?_ fin
      rw [List.length_dropLast]
      obtain ⟨v, hv⟩ : ∃ v, M.length = v + 1 := ⟨M.length - 1, by omega⟩
      rw [hv, pk_m1]; rfl
theorem yl_c66 {post : SY → Prop} {J : Int32 → Int32 → Int32 → (Nat → Int32) → (Nat → Int32) → (Nat → Int32) → (Nat → Int32) → Prop} {x4 x5 : Int32} (r : Nat) (h : ur_M 256 L yc yn) (hr : r < 11) (hL : L r = some T) (M : List (List Int32)) (s i z : Nat) (hs : s ≤ i) (hiz : i ≤ z) (hz : z ≤ T.length) (hq : M.length < 250) (hm : ur_me T M ys ye)
    (k : ∀ ys' ye', ur_me T (ur_nx (decide (i = z)) M (ur_ex T s i)) ys' ye' → J (nI (ur_nx (decide (i = z)) M (ur_ex T s i)).length) (nI (i + 1)) (nI (i + 1)) yc yn ys' ye') :
    wY_clean_66 post J (nI r) (nI z) x4 x5 (nI M.length) (nI s) (nI i) lim cnt yc yn ys ye := by
  have h8 := ur_M_le h hr hL
  have e : nI i - nI s = nI (i - s) := pk_sub hs
  have h92 : ∀ b1 : Bool, (b1 = true ↔ ur_ex T s i = [46]) → wY_clean_92 post J (nI r) (nI z) x4 x5 (nI M.length) (nI s) (nI i) (ur_b b1) lim cnt yc yn ys ye := by
    intro b1 hb1
    have go : ∀ b2 : Bool, (b2 = true ↔ ur_ex T s i = [46, 46]) → wY_clean_134 post J (nI r) (nI z) x4 x5 (nI M.length) (nI s) (nI i) (ur_b b1) (ur_b b2) lim cnt yc yn ys ye :=
      fun b2 hb2 => yl_c134 M s i z hs hiz hz h8 hq hm hb1 hb2 k
    have no : ¬ ur_ex T s i = [46, 46] → wY_clean_133 post J (nI r) (nI z) x4 x5 (nI M.length) (nI s) (nI i) (ur_b b1) lim cnt yc yn ys ye :=
      fun w => go false ⟨fun y => (by cases y), fun y => absurd y w⟩
    unfold wY_clean_92
    rw [e]
    refine pk_eq (i - s) 2 (fun y => ya_at r s h hr hL (by omega) ?_) (fun y => no (fun w => y ((ur_two hs (by omega)).mp w).1))
    by_cases c1 : ur_at T s = 46
    · refine br_t c1 ?_
      rw [nI_1]
      refine ya_at r (s + 1) h hr hL (by omega) ?_
      by_cases c2 : ur_at T (s + 1) = 46
      · exact br_t c2 (go true ⟨fun _ => (ur_two hs (by omega)).mpr ⟨y, c1, c2⟩, fun _ => rfl⟩)
      · exact br_f c2 (no (fun w => c2 ((ur_two hs (by omega)).mp w).2.2))
    · exact br_f c1 (no (fun w => c1 ((ur_two hs (by omega)).mp w).2.1))
  have no : ¬ ur_ex T s i = [46] → wY_clean_91 post J (nI r) (nI z) x4 x5 (nI M.length) (nI s) (nI i) lim cnt yc yn ys ye :=
    fun w => h92 false ⟨fun y => (by cases y), fun y => absurd y w⟩
  unfold wY_clean_66
  rw [e]
  refine pk_eq (i - s) 1 (fun y => ya_at r s h hr hL (by omega) ?_) (fun y => no (fun w => y ((ur_one hs (by omega)).mp w).1))
  by_cases c1 : ur_at T s = 46
  · exact br_t c1 (h92 true ⟨fun _ => (ur_one hs (by omega)).mpr ⟨y, c1⟩, fun _ => rfl⟩)
  · exact br_f c1 (no (fun w => c1 ((ur_one hs (by omega)).mp w).2))
theorem yl_c266 {post : SY → Prop} (r dst : Nat) (hr : r < 11) (hd : dst < 11) (hrd : dst ≠ r) (M : List (List Int32)) (hM : M.length < 250) (hm : ur_me T M ys ye) (hT8 : T.length ≤ 256) :
    ∀ (d j : Nat) (D : List Int32) (yc yn : Nat → Int32) (L : Nat → Option (List Int32)), j + d = M.length → ur_M 256 L yc yn → L r = some T → L dst = some D → D.length + (ur_flat (M.drop j)).length ≤ 256 →
    (∀ c' n', ur_M 256 (ur_s L dst (some (D ++ ur_flat (M.drop j)))) c' n' → post (ur_y lim cnt c' n' ys ye)) →
    wY_clean_266 post (nI r) (nI dst) (nI M.length) (d + 1) (nI j) lim cnt yc yn ys ye := by
  intro d
  induction d with
  | zero =>
    intro j D yc yn L hj h hL hD h8 k
    refine br_t (nI_le (by omega) (by omega)) (k yc yn ?_)
    rw [List.drop_eq_nil_of_le (by omega), show ur_flat [] = [] from rfl, List.append_nil, ur_s_id hD]
    exact h
  | succ d ih =>
    intro j D yc yn L hj h hL hD h8 k
    obtain ⟨a, b, h1, h2, h3, h4, h5⟩ := hm j (by omega)
    have hdr := ur_drop_c M j _ h5
    have ef : ur_flat (M.drop j) = 47 :: (ur_ex T a b ++ ur_flat (M.drop (j + 1))) := by rw [hdr]; rfl
    have el := ur_ex_len (t := T) (a := a) h4
    rw [ef] at h8 k
    rw [List.length_cons, List.length_append, el] at h8
    have hv : vp_in (nI j) 256 := vp_in_nI (by omega) (by decide)
    refine br_f (nI_ge (by omega) (by omega)) (ya_add dst h hd hD (by omega) (fun c1 n1 m1 => ⟨hv, hv, ?_⟩))
    rw [nI_clamp (show j < 2 ^ 31 by omega), h1, h2]
    refine ya_append dst r a b m1 hd hr hrd ur_s_e ((ur_s_n (fun z => hrd z.symm)).trans hL) h4 (by omega) (by rw [List.length_append, List.length_singleton]; omega) (fun c2 n2 m2 => nm_r (nI_1 _) ?_)
    rw [ur_s_s] at m2
    refine ih (j + 1) _ c2 n2 _ (by omega) m2 ((ur_s_n (fun z => hrd z.symm)).trans hL) ur_s_e (by rw [List.length_append, List.length_append, List.length_singleton, el]; omega) ?_
    rw [ur_s_s, List.append_assoc, List.append_assoc, List.singleton_append]
    exact k
theorem yl_c39 {post : SY → Prop} {au : Bool} (r dst : Nat) (h : ur_M 256 L yc yn) (hr : r < 11) (hd : dst < 11) (hrd : dst ≠ r) (hL : L r = some T) (hD : L dst = some D) (z : Nat) (hz : z ≤ T.length) :
    ∀ (x : List Int32) (i s : Nat) (M : List (List Int32)) (ys ye : Nat → Int32), x = ur_ex T i z → i ≤ z → s ≤ i → (ur_flat M).length + 1 + (i - s) + x.length ≤ 240 → D.length + 2 + ((ur_flat M).length + 1 + (i - s) + x.length) ≤ 256 → ur_me T M ys ye →
    (∀ c' n' s' e', ur_M 256 (ur_s L dst (some (D ++ ur_out au (ur_cl M (ur_ex T s i) x)))) c' n' → post (ur_y lim cnt c' n' s' e')) →
    wY_clean_39 post (nI r) (nI z) (ur_b au) (nI dst) lim cnt (x.length + 2) (nI M.length) (nI s) (nI i) yc yn ys ye
  | [], i, s, M, ys, ye, hx, hi, hs, h240, h256, hm, k => by
    have h8 := ur_M_le h hr hL
    have e : i = z := by
      rcases Nat.lt_or_ge i z with w | w
      · rw [ur_ex_cons w (by omega)] at hx; cases hx
      · omega
    subst e
    have el := ur_ex_len (t := T) (a := s) hz
    have fg := ur_flat_ge M
    rw [List.length_nil] at h240 h256
    refine br_f (nI_nlt (Nat.le_refl _) (by omega)) (br_t (nI_le (Nat.le_refl _) (by omega)) (yl_c66 r h hr hL M s i i hs (Nat.le_refl _) hz (by omega) hm (fun ys' ye' hm2 => ?_)))
    have el2 := ur_nx_len (b := true) (M := M) (cur := ur_ex T s i)
    rw [decide_eq_true rfl] at hm2 ⊢
    generalize hM2 : ur_nx true M (ur_ex T s i) = M2 at hm2 el2 ⊢
    have ek : ur_cl M (ur_ex T s i) [] = M2 := hM2
    rw [ek] at k
    rw [el] at el2
    have fg2 := ur_flat_ge M2
    refine br_t (nI_lt (by omega) (by omega)) ?_
    have plain : ur_out au M2 = ur_flat M2 → ∃ n, wY_clean_266 post (nI r) (nI dst) (nI M2.length) n 0 lim cnt yc yn ys' ye' := by
      intro eo
      rw [eo] at k
      exact ⟨M2.length + 1, yl_c266 r dst hr hd hrd M2 (by omega) hm2 h8 M2.length 0 D yc yn L (by omega) h hL hD (by rw [List.drop_zero]; omega) (fun c' n' h' => k c' n' _ _ (by rw [List.drop_zero] at h'; exact h'))⟩
    refine ur_br (fun y => ?_) (fun y => ?_)
    · refine pk_le M2.length 1 (fun w => ?_) (fun w => ?_)
      · refine plain ?_
        unfold ur_out; rw [if_neg]
        intro q
        match M2, w, q with
        | [], _, q => exact absurd q.2 (by decide)
        | [[]], _, q => exact absurd q.2 (by decide)
        | [_ :: _], _, q => exact absurd (show false = true from q.2) (by decide)
        | _ :: _ :: _, w, _ => simp only [List.length_cons] at w; omega
      · obtain ⟨a, b, h1, h2, h3, h4, h5⟩ := hm2 0 (by omega)
        rw [h1, h2]
        have hh : ur_hd0 M2 = decide (a = b) := by
          match M2, w, h5 with
          | [], w, _ => simp at w
          | [_], w, _ => simp at w
          | [] :: _ :: _, _, h5 =>
            simp at h5
            have := ur_ex_len (t := T) (a := a) h4
            rw [h5] at this
            rw [decide_eq_true (by simp at this; omega)]; rfl
          | (_ :: _) :: _ :: _, _, h5 =>
            simp at h5
            have := ur_ex_len (t := T) (a := a) h4
            rw [← h5] at this
            rw [decide_eq_false (by simp at this; omega)]; rfl
        refine pk_eq a b (fun e => ?_) (fun e => ?_)
        · have eo : ur_out au M2 = 47 :: 46 :: ur_flat M2 := by unfold ur_out; rw [if_pos ⟨y, by rw [hh, decide_eq_true e]⟩]
          rw [eo] at k
          refine ya_add dst h hd hD (by omega) (fun c1 n1 m1 => ?_)
          refine ya_add dst m1 hd ur_s_e (by rw [List.length_append, List.length_singleton]; omega) (fun c2 n2 m2 => ?_)
          rw [ur_s_s] at m2
          refine ⟨M2.length + 1, yl_c266 r dst hr hd hrd M2 (by omega) hm2 h8 M2.length 0 _ c2 n2 _ (by omega) m2 ((ur_s_n (fun z => hrd z.symm)).trans hL) ur_s_e (by rw [List.drop_zero, List.length_append, List.length_append, List.length_singleton, List.length_singleton]; omega) (fun c' n' h' => k c' n' _ _ ?_)⟩
          rw [ur_s_s, List.drop_zero, List.append_assoc, List.append_assoc, List.singleton_append, List.singleton_append] at h'
          exact h'
        · refine plain ?_
          unfold ur_out; rw [if_neg]
          intro q; rw [hh, decide_eq_false e] at q; exact absurd q.2 (by decide)
    · refine plain ?_
      unfold ur_out; rw [if_neg]
      intro q; rw [y] at q; exact absurd q.1 (by decide)
  | c :: x, i, s, M, ys, ye, hx, hi, hs, h240, h256, hm, k => by
    have h8 := ur_M_le h hr hL
    have fg := ur_flat_ge M
    have hlt : i < z := by
      rcases Nat.lt_or_ge i z with w | w
      · exact w
      · rw [ur_ex_nil w] at hx; cases hx
    rw [List.length_cons] at h240 h256
    have hx' := hx
    rw [ur_ex_cons hlt (by omega)] at hx'
    have hc1 : c = ur_at T i := (List.cons.inj hx').1
    have hx1 : x = ur_ex T (i + 1) z := (List.cons.inj hx').2
    have el := ur_ex_len (t := T) (a := s) (b := i) (by omega)
    refine br_f (nI_nlt (by omega) (by omega)) (br_f (nI_ge (by omega) (by omega)) (ya_at r i h hr hL (by omega) ?_))
    rw [← hc1]
    rw [ur_cl] at k
    by_cases w : c = 47
    · rw [if_pos w] at k
      refine br_t w (yl_c66 r h hr hL M s i z hs hi hz (by omega) hm (fun ys' ye' hm2 => ?_))
      rw [decide_eq_false (by omega)] at hm2 ⊢
      have el2 := ur_nx_len (b := false) (M := M) (cur := ur_ex T s i)
      rw [el] at el2
      refine yl_c39 r dst h hr hd hrd hL hD z hz x (i + 1) (i + 1) _ ys' ye' hx1 (by omega) (Nat.le_refl _) (by omega) (by omega) hm2 ?_
      rw [ur_ex_nil (Nat.le_refl _)]
      exact k
    · rw [if_neg w] at k
      refine br_f w (nm_r (nI_1 _) ?_)
      refine yl_c39 r dst h hr hd hrd hL hD z hz x (i + 1) s M ys ye hx1 (by omega) (by omega) (by omega) (by omega) hm ?_
      rw [ur_ex_snoc hs (by omega), ← hc1]
      exact k
/-- clean -/
theorem ya_clean {post : SY → Prop} {au : Bool} (r a z dst : Nat) (h : ur_M 256 L yc yn) (hr : r < 11) (hd : dst < 11) (hrd : dst ≠ r) (hL : L r = some T) (hD : L dst = some D) (ha : a ≤ z) (hz : z ≤ T.length) (h240 : z - a ≤ 200) (h256 : D.length + (z - a) ≤ 250)
    (k : ∀ c' n' s' e', ur_M 256 (ur_s L dst (some (D ++ ur_clean au (ur_ex T a z)))) c' n' → post (ur_y lim cnt c' n' s' e')) :
    wpY_clean post (ur_y lim cnt yc yn ys ye) (nI r) (nI a) (nI z) (ur_b au) (nI dst) := by
  have h8 := ur_M_le h hr hL
  unfold wpY_clean
  refine nm_r (nI_1 _) (pk_eq a z (fun e => ?_) (fun e => ya_at r a h hr hL (by omega) ?_))
  · unfold wY_clean_24
    refine ya_append0 (nI_le (by omega) (by omega)) ?_
    have k := k yc yn ys ye
    rw [ur_ex_nil (by omega), show ur_clean au [] = [] from rfl, List.append_nil, ur_s_id hD] at k
    exact k h
  · have ex := ur_ex_cons (t := T) (a := a) (b := z) (by omega) hz
    by_cases w : ur_at T a = 47
    · refine br_t w (nm_r (nI_1 _) ⟨(ur_ex T (a + 1) z).length + 2, ?_⟩)
      have ec : ur_clean au (ur_ex T a z) = ur_out au (ur_cl [] [] (ur_ex T (a + 1) z)) := by rw [ex]; exact if_pos w
      rw [ec] at k
      have el := ur_ex_len (t := T) (a := a + 1) hz
      refine yl_c39 r dst h hr hd hrd hL hD z hz _ (a + 1) (a + 1) [] ys ye rfl (by omega) (Nat.le_refl _) (by rw [el]; show 0 + 1 + _ + _ ≤ 240; omega) (by rw [el]; show _ + 2 + (0 + 1 + _ + _) ≤ 256; omega) (fun j hj => absurd hj (Nat.not_lt_zero _)) ?_
      rw [ur_ex_nil (Nat.le_refl _)]
      exact k
    · refine br_f w ?_
      unfold wY_clean_24
      refine ya_append dst r a z h hd hr hrd hD hL hz (by omega) (by omega) (fun c' n' h' => ?_)
      have ec : ur_clean au (ur_ex T a z) = ur_ex T a z := by rw [ex]; exact if_neg w
      rw [ec] at k
      exact k c' n' ys ye h'
end
end
section
/-! escapes and letters normalised -/
def ur_lo (lo : Bool) (c : Int32) : Int32 := if lo = true then ur_lc c else c
def ur_hv (x y : Int32) : Int32 := 16 * ur_hx x + ur_hx y
def ur_u2 (lo : Bool) (x y : Int32) : List Int32 := if ur_un (ur_hv x y) = true then [ur_lo lo (ur_hv x y)] else [37, ur_uc x, ur_uc y]
def ur_dec (lo : Bool) : List Int32 → List Int32
  | [] => []
  | [c] => [ur_lo lo c]
  | [c, x] => [ur_lo lo c, ur_lo lo x]
  | c :: x :: y :: l => if c = 37 then ur_u2 lo x y ++ ur_dec lo l else ur_lo lo c :: ur_dec lo (x :: y :: l)
theorem ur_dec_p {lo : Bool} : ∀ (c : Int32) (l : List Int32), (¬ c = 37 ∨ l.length < 2) → ur_dec lo (c :: l) = ur_lo lo c :: ur_dec lo l
  | c, [], _ => rfl
  | c, [x], _ => rfl
  | c, x :: y :: l, h => by
    have h' : ¬ c = 37 := h.elim id (fun z => absurd z (by simp only [List.length_cons]; omega))
    rw [ur_dec, if_neg h']
theorem ur_dec_e {lo : Bool} (x y : Int32) (l : List Int32) : ur_dec lo (37 :: x :: y :: l) = ur_u2 lo x y ++ ur_dec lo l := by
  rw [ur_dec, if_pos rfl]
theorem ur_u2_len (lo : Bool) (x y : Int32) : 1 ≤ (ur_u2 lo x y).length ∧ (ur_u2 lo x y).length ≤ 3 := by
  unfold ur_u2; split <;> simp
theorem ur_dec_len {lo : Bool} : ∀ (l : List Int32), (ur_dec lo l).length ≤ l.length
  | [] => Nat.le_refl _
  | [c] => Nat.le_refl _
  | [c, x] => Nat.le_refl _
  | c :: x :: y :: l => by
    rw [ur_dec]
    split
    · have a := ur_u2_len lo x y
      have b := ur_dec_len (lo := lo) l
      rw [List.length_append]; simp only [List.length_cons]; omega
    · have b := ur_dec_len (lo := lo) (x :: y :: l)
      simp only [List.length_cons] at b ⊢; omega
/-- whole escapes -/
def ur_ev : List Int32 → Bool
  | [] => true
  | c :: l => (if c = 37 then ur_h2 l else true) && ur_ev l
theorem ur_ev_gC {lv : Nat} : ∀ (l : List Int32), ur_gC lv l = true → ur_ev l = true
  | [], _ => rfl
  | c :: l, h => by
    rw [ur_gC, Bool.and_eq_true] at h
    rw [ur_ev, Bool.and_eq_true]
    refine ⟨?_, ur_ev_gC l h.2⟩
    have h1 := h.1
    split
    · rename_i z; rw [if_pos z] at h1; exact h1
    · rfl
theorem ur_ev_no : ∀ (l : List Int32), (∀ c, c ∈ l → ¬ c = 37) → ur_ev l = true
  | [], _ => rfl
  | c :: l, h => by
    rw [ur_ev, if_neg (h c List.mem_cons_self), Bool.true_and]
    exact ur_ev_no l (fun d hd => h d (List.mem_cons_of_mem _ hd))
theorem ur_uc_y {x : Int32} (h : ur_hk x = true) : ur_uc x = if x < 97 then x else x - 32 := by
  unfold ur_uc
  by_cases z : x < 97
  · rw [if_pos z, if_pos z]
  · rw [if_neg z, if_neg z, if_neg]
    intro w
    have a : ¬ x < 48 := fun q => z (Int32.lt_trans q (by decide))
    have b : 57 < x := Int32.lt_trans (by decide) w
    have c : ¬ x < 65 := fun q => z (Int32.lt_trans q (by decide))
    have d : 70 < x := Int32.lt_trans (by decide) w
    have e : 102 < x := Int32.lt_trans (by decide) w
    have q : ur_hx x = -1 := by
      unfold ur_hx ur_hx2 ur_hx3
      rw [if_neg a, if_pos b, if_neg c, if_pos d, if_neg z, if_pos e]
    have := ur_hk_t.mp h
    rw [q] at this
    exact absurd this (by decide)
section
variable {bh lim cnt : Int32} {m l fa ta wa : Nat → Int32} {L : Nat → Option (List Int32)} {T S : List Int32}
theorem xs_u119 {post : Int32 → SX → Prop} (d : Nat) {lo : Bool} {c x6 : Int32} (h : ur_M 128 L m l) (hd : d < 11) (hL : L d = some T) (hT : T.length < 128)
    (k : ∀ m' l', ur_M 128 (ur_s L d (some (T ++ [ur_lo lo c]))) m' l' → post x6 (ur_x bh lim cnt m' l' fa ta wa)) :
    wX_addUnit_119 post (nI d) (ur_b lo) c x6 128 6 7 8 9 10 bh lim cnt m l fa ta wa := by
  unfold wX_addUnit_119
  refine ur_br (fun z => ?_) (fun z => xa_lc ?_)
  · unfold wX_addUnit_132
    have e : ur_lo lo c = c := by unfold ur_lo; rw [if_neg (by rw [z]; decide)]
    rw [e] at k
    exact xa_add d h hd hL hT k
  · unfold wX_addUnit_132
    have e : ur_lo lo c = ur_lc c := by unfold ur_lo; rw [if_pos z]
    rw [e] at k
    exact xa_add d h hd hL hT k
theorem xa_unit_p {post : Int32 → SX → Prop} (d s i b : Nat) {lo : Bool} (h : ur_M 128 L m l) (hd : d < 11) (hs : s < 11) (hL : L d = some T) (hS : L s = some S) (hT : T.length < 128) (hi : i < S.length) (hb : b ≤ S.length) (hp : ¬ ur_at S i = 37 ∨ b ≤ i + 2)
    (k : ∀ m' l', ur_M 128 (ur_s L d (some (T ++ [ur_lo lo (ur_at S i)]))) m' l' → post 1 (ur_x bh lim cnt m' l' fa ta wa)) :
    wpX_addUnit post (ur_x bh lim cnt m l fa ta wa) (nI d) (nI (s * 128 + i)) (nI (s * 128 + b)) (ur_b lo) := by
  have h8 := ur_M_le h hs hS
  unfold wpX_addUnit
  refine ⟨vp_in_nI (by omega) (by decide), nm_r (e' := ur_at S i) (by rw [nI_clamp (by omega)]; exact ur_M_at h hs hS hi) (br_c (fun z => ?_) (fun z => xs_u119 d h hd hL hT k))⟩
  rw [ur_p2]
  refine pk_le (s * 128 + b) (s * 128 + i + 2) (fun y => xs_u119 d h hd hL hT k) (fun y => ?_)
  rcases hp with w | w
  · exact absurd z w
  · omega
theorem xa_unit_e {post : Int32 → SX → Prop} (d s i b : Nat) {lo : Bool} (h : ur_M 128 L m l) (hd : d < 11) (hs : s < 11) (hL : L d = some T) (hS : L s = some S) (hT : T.length + 3 ≤ 128) (hb : b ≤ S.length) (hp : ur_at S i = 37) (hi : i + 2 < b)
    (k : ∀ m' l', ur_M 128 (ur_s L d (some (T ++ ur_u2 lo (ur_at S (i + 1)) (ur_at S (i + 2))))) m' l' → post 3 (ur_x bh lim cnt m' l' fa ta wa)) :
    wpX_addUnit post (ur_x bh lim cnt m l fa ta wa) (nI d) (nI (s * 128 + i)) (nI (s * 128 + b)) (ur_b lo) := by
  have h8 := ur_M_le h hs hS
  unfold wpX_addUnit
  refine ⟨vp_in_nI (by omega) (by decide), nm_r (e' := ur_at S i) (by rw [nI_clamp (by omega)]; exact ur_M_at h hs hS (by omega)) (br_t hp ?_)⟩
  rw [ur_p2, nI_1]
  refine br_f (nI_ge (by omega) (by omega)) ⟨vp_in_nI (by omega) (by decide), nm_r (e' := ur_at S (i + 1)) (by rw [nI_clamp (by omega)]; exact ur_M_at h hs hS (i := i + 1) (by omega)) ⟨vp_in_nI (by omega) (by decide), nm_r (e' := ur_at S (i + 2)) (by rw [nI_clamp (by omega)]; exact ur_M_at h hs hS (i := i + 2) (by omega)) ?_⟩⟩
  refine xa_hx (xa_hx (nm_e (xa_un (ur_br (fun z => ?_) (fun z => ?_)))))
  · have e : ur_u2 lo (ur_at S (i + 1)) (ur_at S (i + 2)) = [37, ur_uc (ur_at S (i + 1)), ur_uc (ur_at S (i + 2))] := by unfold ur_u2; rw [if_neg]; unfold ur_hv; rw [z]; decide
    rw [e] at k
    refine xa_uc (xa_uc ?_)
    refine xa_add d h hd hL (by omega) (fun m1 l1 h1 => ?_)
    refine xa_add d h1 hd ur_s_e (by rw [List.length_append, List.length_singleton]; omega) (fun m2 l2 h2 => ?_)
    rw [ur_s_s] at h2
    refine xa_add d h2 hd ur_s_e (by rw [List.length_append, List.length_append, List.length_singleton, List.length_singleton]; omega) (fun m3 l3 h3 => ?_)
    rw [ur_s_s, List.append_assoc, List.append_assoc] at h3
    exact k m3 l3 h3
  · have e : ur_u2 lo (ur_at S (i + 1)) (ur_at S (i + 2)) = [ur_lo lo (ur_hv (ur_at S (i + 1)) (ur_at S (i + 2)))] := if_pos z
    rw [e] at k
    exact xs_u119 d h hd hL (by omega) k
theorem xl_norm {post : SX → Prop} (d s b : Nat) {lo : Bool} (hd : d < 11) (hs : s < 11) (hds : d ≠ s) (hb : b ≤ S.length) (h8 : S.length ≤ 128) :
    ∀ (w : List Int32) (i : Nat) (T : List Int32) (m l : Nat → Int32) (L : Nat → Option (List Int32)), ur_G S.length (ur_at S) i w → i + w.length = b → ur_M 128 L m l → L d = some T → L s = some S → T.length + w.length ≤ 128 →
    (∀ m' l', ur_M 128 (ur_s L d (some (T ++ ur_dec lo w))) m' l' → post (ur_x bh lim cnt m' l' fa ta wa)) →
    wX_addNormal_6 post (nI d) (nI (s * 128 + b)) (ur_b lo) (w.length + 1) (nI (s * 128 + i)) (nI (s * 128 + i)) 128 6 7 8 9 10 bh lim cnt m l fa ta wa := by
  have plain : ∀ (n : Nat), (∀ (w : List Int32), w.length < n → ∀ (i : Nat) (T : List Int32) (m l : Nat → Int32) (L : Nat → Option (List Int32)), ur_G S.length (ur_at S) i w → i + w.length = b → ur_M 128 L m l → L d = some T → L s = some S → T.length + w.length ≤ 128 →
    (∀ m' l', ur_M 128 (ur_s L d (some (T ++ ur_dec lo w))) m' l' → post (ur_x bh lim cnt m' l' fa ta wa)) →
    wX_addNormal_6 post (nI d) (nI (s * 128 + b)) (ur_b lo) (w.length + 1) (nI (s * 128 + i)) (nI (s * 128 + i)) 128 6 7 8 9 10 bh lim cnt m l fa ta wa) := by
    intro n
    induction n with
    | zero => intro w hw; omega
    | succ n ih =>
      intro w hw i T m l L hG hiw h hL hS hT k
      cases w with
      | nil =>
        simp only [List.length_nil, Nat.add_zero] at hiw
        refine br_t (nI_le (by omega) (by omega)) (k m l ?_)
        rw [show ur_dec lo [] = [] from rfl, List.append_nil, ur_s_id hL]
        exact h
      | cons c w =>
        obtain ⟨h1, h2, h3⟩ := ur_G_cons hG
        simp only [List.length_cons] at hiw hw hT
        refine br_f (nI_ge (by omega) (by omega)) (br_t rfl ?_)
        by_cases hp : ¬ c = 37 ∨ w.length < 2
        · rw [ur_dec_p c w hp] at k
          refine xa_unit_p d s i b h hd hs hL hS (by omega) h1 hb (hp.imp (fun z => by rw [h2]; exact z) (fun z => by omega)) (fun m' l' h' => nm_r (nI_1 _) (nm_r (nI_1 _) ?_))
          refine ih w (by omega) (i + 1) _ m' l' _ h3 (by omega) h' ur_s_e ((ur_s_n (fun z => hds z.symm)).trans hS) (by rw [List.length_append, List.length_singleton]; omega) ?_
          rw [ur_s_s, List.append_assoc, h2]
          exact k
        · have c37 : c = 37 := Decidable.byContradiction fun z => hp (Or.inl z)
          have w2 : 2 ≤ w.length := Nat.le_of_not_lt fun z => hp (Or.inr z)
          match w, h3, w2, hiw, hw, hT, k with
          | x :: y :: w, h3, w2, hiw, hw, hT, k =>
            obtain ⟨h4, h5, h6⟩ := ur_G_cons h3
            obtain ⟨h7, h8', h9⟩ := ur_G_cons h6
            simp only [List.length_cons] at hiw hw hT
            rw [c37, ur_dec_e] at k
            have ul := ur_u2_len lo x y
            refine xa_unit_e d s i b h hd hs hL hS (by omega) hb (by rw [h2]; exact c37) (by omega) (fun m' l' h' => ?_)
            rw [h5, show ur_at S (i + 2) = y from h8'] at h'
            refine nm_r (e' := nI (s * 128 + i + 3)) (nI_add _ 3) (nm_r (nI_1 _) ?_)
            show wX_addNormal_6 post (nI d) (nI (s * 128 + b)) (ur_b lo) ((w.length + 1) + 1 + 1) (nI (s * 128 + i + 3)) (nI (s * 128 + i + 1)) 128 6 7 8 9 10 bh lim cnt m' l' fa ta wa
            refine br_f (nI_ge (by omega) (by omega)) (br_f (fun z => by have := (nI_eq (by omega) (by omega)).mp z; omega) (nm_r (nI_1 _) ?_))
            refine br_f (nI_ge (by omega) (by omega)) (br_f (fun z => by have := (nI_eq (by omega) (by omega)).mp z; omega) (nm_r (nI_1 _) ?_))
            refine ih w (by omega) (i + 3) _ m' l' _ h9 (by omega) h' ur_s_e ((ur_s_n (fun z => hds z.symm)).trans hS) (by rw [List.length_append]; omega) ?_
            rw [ur_s_s, List.append_assoc]
            exact k
  intro w
  exact plain (w.length + 1) w (Nat.lt_succ_self _)
/-- addNormal of a component -/
theorem xa_norm {post : SX → Prop} (d s k : Nat) {lo : Bool} {x y : Int32} (h : ur_M 128 L m l) (hd : d < 11) (hs : s < 11) (hds : d ≠ s) (hL : L d = some T) (hS : L s = some S) (hT : T.length + (ur_C S k).length ≤ 128) (hx : x = ur_fX s S k) (hy : y = ur_tX s S k)
    (kk : ∀ m' l', ur_M 128 (ur_s L d (some (T ++ ur_dec lo (ur_C S k)))) m' l' → post (ur_x bh lim cnt m' l' fa ta wa)) :
    wpX_addNormal post (ur_x bh lim cnt m l fa ta wa) (nI d) x y (ur_b lo) := by
  subst hx hy
  cases hB : ur_B S k with
  | none =>
    rw [ur_fX_n hB, ur_tX_n hB]
    have kk := kk m l
    rw [ur_C_n hB, show ur_dec lo [] = [] from rfl, List.append_nil, ur_s_id hL] at kk
    exact ⟨1, br_t (by decide) (kk h)⟩
  | some p =>
    have q := ur_B_b (a := p.1) (b := p.2) hB
    rw [ur_fX_s (a := p.1) (b := p.2) hB, ur_tX_s (a := p.1) (b := p.2) hB]
    rw [ur_C_s (a := p.1) (b := p.2) hB] at kk hT
    exact ⟨_, xl_norm d s p.2 hd hs hds q.2 (ur_M_le h hs hS) _ p.1 T m l L (ur_G_ex q.1 q.2) (by rw [ur_ex_len q.2]; omega) h hL hS hT kk⟩
/-- addRange of a component -/
theorem xa_addC {post : SX → Prop} (d s k : Nat) {x y : Int32} (h : ur_M 128 L m l) (hd : d < 11) (hs : s < 11) (hds : d ≠ s) (hL : L d = some T) (hS : L s = some S) (hT : T.length + (ur_C S k).length ≤ 128) (hx : x = ur_fX s S k) (hy : y = ur_tX s S k)
    (kk : ∀ m' l', ur_M 128 (ur_s L d (some (T ++ ur_C S k))) m' l' → post (ur_x bh lim cnt m' l' fa ta wa)) :
    wpX_addRange post (ur_x bh lim cnt m l fa ta wa) (nI d) x y := by
  subst hx hy
  have h8 := ur_M_le h hs hS
  cases hB : ur_B S k with
  | none =>
    rw [ur_fX_n hB, ur_tX_n hB]
    have kk := kk m l
    rw [ur_C_n hB, List.append_nil, ur_s_id hL] at kk
    exact xa_addRange0 (by decide) (kk h)
  | some p =>
    have q := ur_B_b (a := p.1) (b := p.2) hB
    rw [ur_fX_s (a := p.1) (b := p.2) hB, ur_tX_s (a := p.1) (b := p.2) hB]
    rw [ur_C_s (a := p.1) (b := p.2) hB] at kk hT
    rw [ur_ex_len q.2] at hT
    exact xa_addRange d s p.1 p.2 h hd hs hds hL hS q.2 (by omega) hT kk
end
end
section
/-! the reference's decode -/
def ur_kl (k : Nat) : Bool := decide (k = 0) || decide (k = 2)
section
variable {lim cnt : Int32} {yc yn ys ye : Nat → Int32} {L : Nat → Option (List Int32)} {T S : List Int32}
theorem ys_216 {post : SY → Prop} {J : Int32 → Int32 → Int32 → Int32 → (Nat → Int32) → (Nat → Int32) → (Nat → Int32) → (Nat → Int32) → Prop} {x1 x2 x3 x5 x6 c : Int32} (d i : Nat) (h : ur_M 256 L yc yn) (hd : d < 11) (hL : L d = some T) (hT : T.length < 256)
    (k : ∀ c' n', ur_M 256 (ur_s L d (some (T ++ [c]))) c' n' → J x6 (nI (i + 1)) lim cnt c' n' ys ye) :
    wY_decode_216 post J x1 x2 x3 x5 x6 (nI i) c (nI d) lim cnt yc yn ys ye := by
  unfold wY_decode_216
  exact ya_add d h hd hL hT (fun c' n' h' => nm_r (nI_1 _) (k c' n' h'))
theorem ys_181 {post : SY → Prop} {J : Int32 → Int32 → Int32 → Int32 → (Nat → Int32) → (Nat → Int32) → (Nat → Int32) → (Nat → Int32) → Prop} {x1 x5 x6 c : Int32} (kd d i : Nat) (hk : kd < 8) (h : ur_M 256 L yc yn) (hd : d < 11) (hL : L d = some T) (hT : T.length < 256)
    (k : ∀ c' n', ur_M 256 (ur_s L d (some (T ++ [ur_lo (ur_kl kd) c]))) c' n' → J x6 (nI (i + 1)) lim cnt c' n' ys ye) :
    wY_decode_181 post J x1 (nI kd) (nI d) x5 x6 (nI i) c lim cnt yc yn ys ye := by
  have low : ur_kl kd = true → wY_decode_192 post J x1 (nI kd) (nI d) x5 x6 (nI i) c (nI d) lim cnt yc yn ys ye := by
    intro z
    have e : ur_lo (ur_kl kd) c = ur_lc c := by unfold ur_lo; rw [if_pos z]
    rw [e] at k
    have p : ∀ c0, c0 = ur_lc c → wY_decode_216 post J x1 (nI kd) (nI d) x5 x6 (nI i) c0 (nI d) lim cnt yc yn ys ye := by
      intro c0 e0
      rw [e0]
      exact ys_216 d i h hd hL hT k
    unfold wY_decode_192 wY_decode_214
    refine br_c (fun y => p _ ?_) (fun y => br_c (fun w => p _ ?_) (fun w => p _ ?_))
    · unfold ur_lc; rw [if_pos y]
    · unfold ur_lc; rw [if_neg y, if_pos w]
    · unfold ur_lc; rw [if_neg y, if_neg w]
  unfold wY_decode_181
  refine pk_eq kd 0 (fun z => low ?_) (fun z => pk_eq kd 2 (fun y => low ?_) (fun y => ?_))
  · unfold ur_kl; rw [decide_eq_true z]; rfl
  · unfold ur_kl; rw [decide_eq_true y, Bool.or_true]
  · have e : ur_lo (ur_kl kd) c = c := by unfold ur_lo ur_kl; rw [decide_eq_false z, decide_eq_false y]; rfl
    rw [e] at k
    unfold wY_decode_214
    exact ys_216 d i h hd hL hT k
theorem ys_142 {post : SY → Prop} {J : Int32 → Int32 → Int32 → Int32 → (Nat → Int32) → (Nat → Int32) → (Nat → Int32) → (Nat → Int32) → Prop} {x1 x2 x5 x6 y z0 : Int32} (d i : Nat) (h : ur_M 256 L yc yn) (hd : d < 11) (hL : L d = some T) (hT : T.length + 2 ≤ 256) (hy : ur_hk y = true)
    (k : ∀ c' n', ur_M 256 (ur_s L d (some (T ++ [z0, ur_uc y]))) c' n' → J x6 (nI (i + 1)) lim cnt c' n' ys ye) :
    wY_decode_142 post J x1 x2 (nI d) x5 x6 (nI i) y z0 (nI d) lim cnt yc yn ys ye := by
  unfold wY_decode_142
  refine ya_add d h hd hL (by omega) (fun c1 n1 h1 => ?_)
  have p : ∀ c0, c0 = ur_uc y → wY_decode_164 post J x1 x2 (nI d) x5 x6 (nI i) c0 (nI d) lim cnt c1 n1 ys ye := by
    intro c0 e0
    rw [e0]
    unfold wY_decode_164
    refine ya_add d h1 hd ur_s_e (by rw [List.length_append, List.length_singleton]; omega) (fun c' n' h' => nm_r (nI_1 _) (k c' n' ?_))
    rw [ur_s_s, List.append_assoc] at h'
    exact h'
  have e := ur_uc_y hy
  refine br_c (fun w => p _ ?_) (fun w => p _ ?_)
  · rw [e, if_pos w]
  · rw [e, if_neg w]
theorem yl_dec {post : SY → Prop} (r kd d b : Nat) (hr : r < 11) (hd : d < 11) (hrd : d ≠ r) (hk : kd < 8) (hb : b ≤ S.length) (h8 : S.length ≤ 256) :
    ∀ (n : Nat) (w : List Int32), w.length < n → ∀ (i : Nat) (T : List Int32) (yc yn : Nat → Int32) (L : Nat → Option (List Int32)), ur_ev w = true → ur_G S.length (ur_at S) i w → i + w.length = b → ur_M 256 L yc yn → L d = some T → L r = some S → T.length + w.length ≤ 256 →
    (∀ c' n', ur_M 256 (ur_s L d (some (T ++ ur_dec (ur_kl kd) w))) c' n' → post (ur_y lim cnt c' n' ys ye)) →
    wY_decode_23 post (nI r) (nI kd) (nI d) (nI b) (w.length + 1) 0 (nI i) lim cnt yc yn ys ye := by
  intro n
  induction n with
  | zero => intro w hw; omega
  | succ n ih =>
    intro w hw i T yc yn L hev hG hiw h hL hS hT k
    cases w with
    | nil =>
      simp only [List.length_nil, Nat.add_zero] at hiw
      refine br_t (nI_le (by omega) (by omega)) (k yc yn ?_)
      rw [show ur_dec (ur_kl kd) [] = [] from rfl, List.append_nil, ur_s_id hL]
      exact h
    | cons c w =>
      obtain ⟨h1, h2, h3⟩ := ur_G_cons hG
      simp only [List.length_cons] at hiw hw hT
      rw [ur_ev, Bool.and_eq_true] at hev
      rw [wY_decode_23]
      dsimp only
      rw [nI_1, ur_p2]
      refine br_f (nI_ge (by omega) (by omega)) ?_
      refine ya_at r i h hr hS (by omega) (ya_at r (i + 1) h hr hS (by omega) (ya_at r (i + 2) h hr hS (by omega) (ya_hx (ya_hx (nm_e (br_t (by decide) ?_))))))
      rw [h2]
      by_cases c37 : c = 37
      · have hw2 := hev.1
        rw [if_pos c37] at hw2
        have w2 : 2 ≤ w.length := Nat.le_of_not_lt fun z => by rw [ur_h2_lt w z] at hw2; cases hw2
        rw [ur_h2_ge w w2, Bool.and_eq_true] at hw2
        have e1 : ur_at S (i + 1) = ur_at w 0 := h3.2 0 (by omega)
        have e2 : ur_at S (i + 2) = ur_at w 1 := h3.2 1 (by omega)
        have ev2 := hev.2
        match w, h3, w2, hiw, hw, hT, k, hw2, e1, e2, ev2 with
        | x :: y :: w, h3, w2, hiw, hw, hT, k, hw2, e1, e2, ev2 =>
          obtain ⟨h4, h5, h6⟩ := ur_G_cons h3
          obtain ⟨h7, h8', h9⟩ := ur_G_cons h6
          simp only [List.length_cons] at hiw hw hT
          rw [c37, ur_dec_e] at k
          have ul := ur_u2_len (ur_kl kd) x y
          have e1 : ur_at S (i + 1) = x := e1
          have e2 : ur_at S (i + 2) = y := e2
          have hx : ur_hk x = true := hw2.1
          have hy : ur_hk y = true := hw2.2
          rw [ur_ev, Bool.and_eq_true] at ev2
          have ev3 := ev2.2
          rw [ur_ev, Bool.and_eq_true] at ev3
          rw [e1, e2]
          have ev : ur_hx x * 16 + ur_hx y = ur_hv x y := by unfold ur_hv; rw [Int32.mul_comm]
          rw [ev]
          refine br_t c37 ?_
          have fin : ∀ c' n', ur_M 256 (ur_s L d (some (T ++ ur_u2 (ur_kl kd) x y))) c' n' → wY_decode_23 post (nI r) (nI kd) (nI d) (nI b) (w.length + 1 + 1 + 1) 2 (nI (i + 1)) lim cnt c' n' ys ye := by
            intro c' n' h'
            have hS' : (ur_s L d (some (T ++ ur_u2 (ur_kl kd) x y))) r = some S := (ur_s_n (fun z => hrd z.symm)).trans hS
            have hL' : (ur_s L d (some (T ++ ur_u2 (ur_kl kd) x y))) d = some (T ++ ur_u2 (ur_kl kd) x y) := ur_s_e
            rw [wY_decode_23]
            dsimp only
            rw [nI_1, ur_p2]
            refine br_f (nI_ge (by omega) (by omega)) ?_
            refine ya_at r (i + 1) h' hr hS' (by omega) (ya_at r (i + 1 + 1) h' hr hS' (by omega) (ya_at r (i + 1 + 2) h' hr hS' (by omega) (ya_hx (ya_hx (nm_e (br_f (by decide) (nm_r (e' := 1) (by decide) (nm_e ?_))))))))
            rw [wY_decode_23]
            dsimp only
            rw [nI_1, ur_p2]
            refine br_f (nI_ge (by omega) (by omega)) ?_
            refine ya_at r (i + 1 + 1) h' hr hS' (by omega) (ya_at r (i + 1 + 1 + 1) h' hr hS' (by omega) (ya_at r (i + 1 + 1 + 2) h' hr hS' (by omega) (ya_hx (ya_hx (nm_e (br_f (by decide) (nm_r (e' := 0) (by decide) (nm_e ?_))))))))
            refine ih w (by omega) (i + 3) _ c' n' _ ev3.2 h9 (by omega) h' hL' hS' (by rw [List.length_append]; omega) ?_
            rw [ur_s_s, List.append_assoc]
            exact k
          unfold wY_decode_100
          refine br_t c37 (ya_un (ur_br (fun z => ?_) (fun z => ?_)))
          · have e : ur_u2 (ur_kl kd) x y = [37, ur_uc x, ur_uc y] := by unfold ur_u2; rw [if_neg (by rw [z]; decide)]
            rw [e] at fin
            refine ya_add d h hd hL (by omega) (fun c1 n1 m1 => ?_)
            have p : ∀ c0, c0 = ur_uc x → wY_decode_142 post (wY_decode_23 post (nI r) (nI kd) (nI d) (nI b) (w.length + 1 + 1 + 1)) (nI r) (nI kd) (nI d) (nI b) 2 (nI i) y c0 (nI d) lim cnt c1 n1 ys ye := by
              intro c0 e0
              rw [e0]
              refine ys_142 d i m1 hd ur_s_e (by rw [List.length_append, List.length_singleton]; omega) hy (fun c' n' h' => ?_)
              rw [ur_s_s, List.append_assoc] at h'
              exact fin c' n' h'
            have e := ur_uc_y hx
            refine br_c (fun w => p _ ?_) (fun w => p _ ?_)
            · rw [e, if_pos w]
            · rw [e, if_neg w]
          · have e : ur_u2 (ur_kl kd) x y = [ur_lo (ur_kl kd) (ur_hv x y)] := by unfold ur_u2; rw [if_pos z]
            rw [e] at fin
            unfold wY_decode_170
            exact br_t c37 (ys_181 kd d i hk h hd hL (by omega) fin)
      · rw [ur_dec_p c w (Or.inl c37)] at k
        refine br_f c37 ?_
        unfold wY_decode_100
        refine br_f c37 ?_
        unfold wY_decode_170
        refine br_f c37 (ys_181 kd d i hk h hd hL (by omega) (fun c' n' h' => ?_))
        refine ih w (by omega) (i + 1) _ c' n' _ hev.2 h3 (by omega) h' ur_s_e ((ur_s_n (fun z => hrd z.symm)).trans hS) (by rw [List.length_append, List.length_singleton]; omega) ?_
        rw [ur_s_s, List.append_assoc]
        exact k
theorem ya_dec {post : SY → Prop} (r kd d : Nat) (h : ur_M 256 L yc yn) (hr : r < 11) (hd : d < 11) (hrd : d ≠ r) (hk : kd < 8) (hL : L d = some T) (hS : L r = some S) (hev : ur_ev (ur_C S kd) = true) (hT : T.length + (ur_C S kd).length ≤ 256)
    (k : ∀ c' n', ur_M 256 (ur_s L d (some (T ++ ur_dec (ur_kl kd) (ur_C S kd)))) c' n' → post (ur_y lim cnt c' n' ys ye)) :
    wpY_decode post (ur_y lim cnt yc yn ys ye) (nI r) (nI kd) (nI d) := by
  unfold wpY_decode
  refine ya_begin r kd h hr hS hk (ya_end r kd h hr hS hk ?_)
  cases hB : ur_B S kd with
  | none =>
    rw [ur_E_n hB, ur_E_n hB]
    have k := k yc yn
    rw [ur_C_n hB, show ur_dec (ur_kl kd) [] = [] from rfl, List.append_nil, ur_s_id hL] at k
    exact ⟨1, br_t (by decide) (k h)⟩
  | some p =>
    have q := ur_B_b (a := p.1) (b := p.2) hB
    rw [ur_E_0 (a := p.1) (b := p.2) hB, ur_E_1 (a := p.1) (b := p.2) hB]
    rw [ur_C_s (a := p.1) (b := p.2) hB] at k hT hev
    exact ⟨_, yl_dec r kd d p.2 hr hd hrd hk q.2 (ur_M_le h hr hS) _ _ (Nat.lt_succ_self _) p.1 T yc yn L hev (ur_G_ex q.1 q.2) (by rw [ur_ex_len q.2]; omega) h hL hS hT k⟩
theorem ya_raw {post : SY → Prop} (r kd : Nat) (h : ur_M 256 L yc yn) (hr : r < 11) (hrd : 7 ≠ r) (hk : kd < 8) (hL : L 7 = some T) (hS : L r = some S) (hT : T.length + (ur_C S kd).length ≤ 256)
    (k : ∀ c' n', ur_M 256 (ur_s L 7 (some (T ++ ur_C S kd))) c' n' → post (ur_y lim cnt c' n' ys ye)) :
    wpY_raw post (ur_y lim cnt yc yn ys ye) (nI r) (nI kd) := by
  have h8 := ur_M_le h hr hS
  unfold wpY_raw
  refine ya_begin r kd h hr hS hk (ya_end r kd h hr hS hk ?_)
  cases hB : ur_B S kd with
  | none =>
    rw [ur_E_n hB, ur_E_n hB]
    have k := k yc yn
    rw [ur_C_n hB, List.append_nil, ur_s_id hL] at k
    exact ya_append0 (by decide) (k h)
  | some p =>
    have q := ur_B_b (a := p.1) (b := p.2) hB
    rw [ur_E_0 (a := p.1) (b := p.2) hB, ur_E_1 (a := p.1) (b := p.2) hB]
    rw [ur_C_s (a := p.1) (b := p.2) hB] at k hT
    rw [ur_ex_len q.2] at hT
    exact ya_append 7 r p.1 p.2 h (by decide) hr hrd hL hS q.2 (by omega) hT k
def ur_on (b : Bool) (x : List Int32) : List Int32 := if b = true then x else []
theorem ya_mark {post : SY → Prop} (r kd : Nat) {c : Int32} (h : ur_M 256 L yc yn) (hr : r < 11) (hk : kd < 8) (hL : L 7 = some T) (hS : L r = some S) (hT : T.length < 256)
    (k : ∀ c' n', ur_M 256 (ur_s L 7 (some (T ++ ur_on (ur_B S kd).isSome [c]))) c' n' → post (ur_y lim cnt c' n' ys ye)) :
    wpY_mark post (ur_y lim cnt yc yn ys ye) (nI r) (nI kd) c := by
  have h8 := ur_M_le h hr hS
  unfold wpY_mark
  refine ya_begin r kd h hr hS hk ?_
  cases hB : ur_B S kd with
  | none =>
    rw [ur_E_n hB]
    have k := k yc yn
    rw [hB, show ur_on (none : Option (Nat × Nat)).isSome [c] = [] from rfl, List.append_nil, ur_s_id hL] at k
    exact br_t ur_m1lt (k h)
  | some p =>
    have q := ur_B_b (a := p.1) (b := p.2) hB
    rw [ur_E_0 (a := p.1) (b := p.2) hB]
    rw [hB] at k
    exact br_f (nI_pos (by omega)) (ya_add 7 h (by decide) hL hT k)
end
end
section
/-! building in the regions 7 and 8 -/
def ur_W (W : Nat) (L0 : Nat → Option (List Int32)) (m l : Nat → Int32) (t7 t8 : List Int32) : Prop :=
  ∃ L, ur_M W L m l ∧ L 7 = some t7 ∧ L 8 = some t8 ∧ ∀ j, j ≠ 7 → j ≠ 8 → L j = L0 j
theorem ur_W_i {W : Nat} {L : Nat → Option (List Int32)} {m l : Nat → Int32} {t7 t8 : List Int32} (h : ur_M W L m l) (h7 : L 7 = some t7) (h8 : L 8 = some t8) : ur_W W L m l t7 t8 := ⟨L, h, h7, h8, fun _ _ _ => rfl⟩
theorem ur_W7 {W : Nat} {L0 L : Nat → Option (List Int32)} {m l : Nat → Int32} {t7 t8 : List Int32} (h : ur_M W (ur_s L 7 (some t7)) m l) (h8 : L 8 = some t8) (hk : ∀ j, j ≠ 7 → j ≠ 8 → L j = L0 j) : ur_W W L0 m l t7 t8 :=
  ⟨_, h, ur_s_e, (ur_s_n (by decide)).trans h8, fun j a b => (ur_s_n a).trans (hk j a b)⟩
theorem ur_W8 {W : Nat} {L0 L : Nat → Option (List Int32)} {m l : Nat → Int32} {t7 t8 : List Int32} (h : ur_M W (ur_s L 8 (some t8)) m l) (h7 : L 7 = some t7) (hk : ∀ j, j ≠ 7 → j ≠ 8 → L j = L0 j) : ur_W W L0 m l t7 t8 :=
  ⟨_, h, (ur_s_n (by decide)).trans h7, ur_s_e, fun j a b => (ur_s_n b).trans (hk j a b)⟩
theorem ur_W_n7 {W : Nat} {L0 : Nat → Option (List Int32)} {m l : Nat → Int32} {t7 t8 : List Int32} (h : ur_W W L0 m l t7 t8) : ur_W W L0 m (upd l 7 0) [] t8 := by
  obtain ⟨L, hM, h7, h8, hk⟩ := h
  exact ur_W7 (ur_M_nil hM) h8 hk
theorem ur_W_n8 {W : Nat} {L0 : Nat → Option (List Int32)} {m l : Nat → Int32} {t7 t8 : List Int32} (h : ur_W W L0 m l t7 t8) : ur_W W L0 m (upd l 8 0) t7 [] := by
  obtain ⟨L, hM, h7, h8, hk⟩ := h
  exact ur_W8 (ur_M_nil hM) h7 hk
theorem ur_clean_len (au : Bool) : ∀ (P : List Int32), (ur_clean au P).length ≤ P.length + 2
  | [] => by simp [ur_clean]
  | c :: x => by
    show (if c = 47 then ur_out au (ur_cl [] [] x) else c :: x).length ≤ (c :: x).length + 2
    split
    · have := ur_cl_len x [] []
      unfold ur_out
      simp only [ur_flat, List.length_nil, List.length_cons] at this ⊢
      split
      · simp only [List.length_cons]; omega
      · omega
    · omega
section
variable {bh lim cnt : Int32} {m l fa ta wa : Nat → Int32} {L0 : Nat → Option (List Int32)} {t7 t8 S : List Int32}
theorem xw_add7 {post : SX → Prop} {c : Int32} (h : ur_W 128 L0 m l t7 t8) (hl : t7.length < 128) (k : ∀ m' l', ur_W 128 L0 m' l' (t7 ++ [c]) t8 → post (ur_x bh lim cnt m' l' fa ta wa)) : wpX_addChar post (ur_x bh lim cnt m l fa ta wa) 7 c := by
  obtain ⟨L, hM, h7, h8, hk⟩ := h
  exact xa_add 7 hM (by decide) h7 hl (fun m' l' h' => k m' l' (ur_W7 h' h8 hk))
theorem xw_add8 {post : SX → Prop} {c : Int32} (h : ur_W 128 L0 m l t7 t8) (hl : t8.length < 128) (k : ∀ m' l', ur_W 128 L0 m' l' t7 (t8 ++ [c]) → post (ur_x bh lim cnt m' l' fa ta wa)) : wpX_addChar post (ur_x bh lim cnt m l fa ta wa) 8 c := by
  obtain ⟨L, hM, h7, h8, hk⟩ := h
  exact xa_add 8 hM (by decide) h8 hl (fun m' l' h' => k m' l' (ur_W8 h' h7 hk))
theorem xw_norm7 {post : SX → Prop} (s k : Nat) {lo : Bool} {x y : Int32} (h : ur_W 128 L0 m l t7 t8) (hs : s < 11) (s7 : s ≠ 7) (s8 : s ≠ 8) (hS : L0 s = some S) (hT : t7.length + (ur_C S k).length ≤ 128) (hx : x = ur_fX s S k) (hy : y = ur_tX s S k)
    (kk : ∀ m' l', ur_W 128 L0 m' l' (t7 ++ ur_dec lo (ur_C S k)) t8 → post (ur_x bh lim cnt m' l' fa ta wa)) : wpX_addNormal post (ur_x bh lim cnt m l fa ta wa) 7 x y (ur_b lo) := by
  obtain ⟨L, hM, h7, h8, hk⟩ := h
  exact xa_norm 7 s k hM (by decide) hs s7.symm h7 ((hk s s7 s8).trans hS) hT hx hy (fun m' l' h' => kk m' l' (ur_W7 h' h8 hk))
theorem xw_norm8 {post : SX → Prop} (s k : Nat) {lo : Bool} {x y : Int32} (h : ur_W 128 L0 m l t7 t8) (hs : s < 11) (s7 : s ≠ 7) (s8 : s ≠ 8) (hS : L0 s = some S) (hT : t8.length + (ur_C S k).length ≤ 128) (hx : x = ur_fX s S k) (hy : y = ur_tX s S k)
    (kk : ∀ m' l', ur_W 128 L0 m' l' t7 (t8 ++ ur_dec lo (ur_C S k)) → post (ur_x bh lim cnt m' l' fa ta wa)) : wpX_addNormal post (ur_x bh lim cnt m l fa ta wa) 8 x y (ur_b lo) := by
  obtain ⟨L, hM, h7, h8, hk⟩ := h
  exact xa_norm 8 s k hM (by decide) hs s8.symm h8 ((hk s s7 s8).trans hS) hT hx hy (fun m' l' h' => kk m' l' (ur_W8 h' h7 hk))
theorem xw_rng7 {post : SX → Prop} (s k : Nat) {x y : Int32} (h : ur_W 128 L0 m l t7 t8) (hs : s < 11) (s7 : s ≠ 7) (s8 : s ≠ 8) (hS : L0 s = some S) (hT : t7.length + (ur_C S k).length ≤ 128) (hx : x = ur_fX s S k) (hy : y = ur_tX s S k)
    (kk : ∀ m' l', ur_W 128 L0 m' l' (t7 ++ ur_C S k) t8 → post (ur_x bh lim cnt m' l' fa ta wa)) : wpX_addRange post (ur_x bh lim cnt m l fa ta wa) 7 x y := by
  obtain ⟨L, hM, h7, h8, hk⟩ := h
  exact xa_addC 7 s k hM (by decide) hs s7.symm h7 ((hk s s7 s8).trans hS) hT hx hy (fun m' l' h' => kk m' l' (ur_W7 h' h8 hk))
theorem xw_rng8 {post : SX → Prop} (s k : Nat) {x y : Int32} (h : ur_W 128 L0 m l t7 t8) (hs : s < 11) (s7 : s ≠ 7) (s8 : s ≠ 8) (hS : L0 s = some S) (hT : t8.length + (ur_C S k).length ≤ 128) (hx : x = ur_fX s S k) (hy : y = ur_tX s S k)
    (kk : ∀ m' l', ur_W 128 L0 m' l' t7 (t8 ++ ur_C S k) → post (ur_x bh lim cnt m' l' fa ta wa)) : wpX_addRange post (ur_x bh lim cnt m l fa ta wa) 8 x y := by
  obtain ⟨L, hM, h7, h8, hk⟩ := h
  exact xa_addC 8 s k hM (by decide) hs s8.symm h8 ((hk s s7 s8).trans hS) hT hx hy (fun m' l' h' => kk m' l' (ur_W8 h' h7 hk))
theorem xw_rng8' {post : SX → Prop} (s a b : Nat) (h : ur_W 128 L0 m l t7 t8) (hs : s < 11) (s7 : s ≠ 7) (s8 : s ≠ 8) (hS : L0 s = some S) (ha : a ≤ 2000) (hb : b ≤ S.length) (hT : t8.length + (b - a) ≤ 128)
    (kk : ∀ m' l', ur_W 128 L0 m' l' t7 (t8 ++ ur_ex S a b) → post (ur_x bh lim cnt m' l' fa ta wa)) : wpX_addRange post (ur_x bh lim cnt m l fa ta wa) 8 (nI (s * 128 + a)) (nI (s * 128 + b)) := by
  obtain ⟨L, hM, h7, h8, hk⟩ := h
  exact xa_addRange 8 s a b hM (by decide) hs s8.symm h8 ((hk s s7 s8).trans hS) hb ha hT (fun m' l' h' => kk m' l' (ur_W8 h' h7 hk))
theorem xw_clean {post : SX → Prop} {au : Bool} (h : ur_W 128 L0 m l t7 t8) (hl : t8.length ≤ 124) (k : ∀ m' l', ur_W 128 L0 m' l' t7 (ur_clean au t8) → post (ur_x bh lim cnt m' l' fa ta wa)) : wpX_cleanPath post (ur_x bh lim cnt m l fa ta wa) (ur_b au) := by
  obtain ⟨L, hM, h7, h8, hk⟩ := h
  exact xa_clean hM h8 hl (fun m' l' h' => k m' l' (ur_W8 h' h7 hk))
theorem xw_print {post : SX → Prop} (h : ur_W 128 L0 m l t7 t8) (hl : t7.length + t8.length ≤ 128) (k : ∀ m' l', ur_W 128 L0 m' l' (t7 ++ t8) t8 → post (ur_x bh lim cnt m' l' fa ta wa)) : wpX_printPath post (ur_x bh lim cnt m l fa ta wa) := by
  obtain ⟨L, hM, h7, h8, hk⟩ := h
  unfold wpX_printPath
  dsimp only
  have e : (1024 : Int32) + l 8 = nI (8 * 128 + t8.length) := by rw [ur_M_len hM (by decide) h8]; exact nI_add 1024 _
  rw [e]
  refine xa_addRange 7 8 0 t8.length hM (by decide) (by decide) (by decide) h7 h8 (Nat.le_refl _) (by decide) (by omega) (fun m' l' h' => ?_)
  rw [ur_ex_full] at h'
  exact k m' l' (ur_W7 h' h8 hk)
theorem xw_after {post : SX → Prop} (s k : Nat) {c : Int32} (h : ur_W 128 L0 m l t7 t8) (hs : s < 11) (hk8 : k < 8) (s7 : s ≠ 7) (s8 : s ≠ 8) (hS : L0 s = some S) (hB : ur_BX s S fa ta) (hS8 : S.length ≤ 128) (hT : t7.length + 1 + (ur_C S k).length ≤ 128)
    (kk : ∀ m' l', ur_W 128 L0 m' l' (t7 ++ ur_on (ur_B S k).isSome (c :: ur_C S k)) t8 → post (ur_x bh lim cnt m' l' fa ta wa)) : wpX_printAfter post (ur_x bh lim cnt m l fa ta wa) (nI s) (nI k) c := by
  unfold wpX_printAfter
  refine xa_has s k hs hk8 hB hS8 (ur_br (fun z => ?_) (fun z => ?_))
  · rw [z, show ur_on false (c :: ur_C S k) = [] from rfl, List.append_nil] at kk
    exact kk m l h
  · rw [z] at kk
    refine xw_add7 h (by omega) (fun m1 l1 h1 => ?_)
    dsimp only
    rw [ur_m8]
    refine ⟨ur_iv s k hs hk8, ur_iv s k hs hk8, ?_⟩
    rw [ur_ic s k hs hk8]
    refine xw_rng7 s k h1 hs s7 s8 hS (by rw [List.length_append, List.length_singleton]; omega) (hB k hk8).1 (hB k hk8).2 (fun m2 l2 h2 => ?_)
    rw [List.append_assoc] at h2
    exact kk m2 l2 h2
end
section
variable {lim cnt : Int32} {yc yn ys ye : Nat → Int32} {L0 : Nat → Option (List Int32)} {t7 t8 S : List Int32}
theorem yw_add7 {post : SY → Prop} {c : Int32} (h : ur_W 256 L0 yc yn t7 t8) (hl : t7.length < 256) (k : ∀ c' n', ur_W 256 L0 c' n' (t7 ++ [c]) t8 → post (ur_y lim cnt c' n' ys ye)) : wpY_add post (ur_y lim cnt yc yn ys ye) 7 c := by
  obtain ⟨L, hM, h7, h8, hk⟩ := h
  exact ya_add 7 hM (by decide) h7 hl (fun m' l' h' => k m' l' (ur_W7 h' h8 hk))
theorem yw_add8 {post : SY → Prop} {c : Int32} (h : ur_W 256 L0 yc yn t7 t8) (hl : t8.length < 256) (k : ∀ c' n', ur_W 256 L0 c' n' t7 (t8 ++ [c]) → post (ur_y lim cnt c' n' ys ye)) : wpY_add post (ur_y lim cnt yc yn ys ye) 8 c := by
  obtain ⟨L, hM, h7, h8, hk⟩ := h
  exact ya_add 8 hM (by decide) h8 hl (fun m' l' h' => k m' l' (ur_W8 h' h7 hk))
theorem yw_dec7 {post : SY → Prop} (r kd : Nat) (h : ur_W 256 L0 yc yn t7 t8) (hr : r < 11) (r7 : r ≠ 7) (r8 : r ≠ 8) (hk8 : kd < 8) (hS : L0 r = some S) (hev : ur_ev (ur_C S kd) = true) (hT : t7.length + (ur_C S kd).length ≤ 256)
    (k : ∀ c' n', ur_W 256 L0 c' n' (t7 ++ ur_dec (ur_kl kd) (ur_C S kd)) t8 → post (ur_y lim cnt c' n' ys ye)) : wpY_decode post (ur_y lim cnt yc yn ys ye) (nI r) (nI kd) 7 := by
  obtain ⟨L, hM, h7, h8, hk⟩ := h
  exact ya_dec r kd 7 hM hr (by decide) r7.symm hk8 h7 ((hk r r7 r8).trans hS) hev hT (fun m' l' h' => k m' l' (ur_W7 h' h8 hk))
theorem yw_dec8 {post : SY → Prop} (r kd : Nat) (h : ur_W 256 L0 yc yn t7 t8) (hr : r < 11) (r7 : r ≠ 7) (r8 : r ≠ 8) (hk8 : kd < 8) (hS : L0 r = some S) (hev : ur_ev (ur_C S kd) = true) (hT : t8.length + (ur_C S kd).length ≤ 256)
    (k : ∀ c' n', ur_W 256 L0 c' n' t7 (t8 ++ ur_dec (ur_kl kd) (ur_C S kd)) → post (ur_y lim cnt c' n' ys ye)) : wpY_decode post (ur_y lim cnt yc yn ys ye) (nI r) (nI kd) 8 := by
  obtain ⟨L, hM, h7, h8, hk⟩ := h
  exact ya_dec r kd 8 hM hr (by decide) r8.symm hk8 h8 ((hk r r7 r8).trans hS) hev hT (fun m' l' h' => k m' l' (ur_W8 h' h7 hk))
theorem yw_raw {post : SY → Prop} (r kd : Nat) (h : ur_W 256 L0 yc yn t7 t8) (hr : r < 11) (r7 : r ≠ 7) (r8 : r ≠ 8) (hk8 : kd < 8) (hS : L0 r = some S) (hT : t7.length + (ur_C S kd).length ≤ 256)
    (k : ∀ c' n', ur_W 256 L0 c' n' (t7 ++ ur_C S kd) t8 → post (ur_y lim cnt c' n' ys ye)) : wpY_raw post (ur_y lim cnt yc yn ys ye) (nI r) (nI kd) := by
  obtain ⟨L, hM, h7, h8, hk⟩ := h
  exact ya_raw r kd hM hr r7.symm hk8 h7 ((hk r r7 r8).trans hS) hT (fun m' l' h' => k m' l' (ur_W7 h' h8 hk))
theorem yw_mark {post : SY → Prop} (r kd : Nat) {c : Int32} (h : ur_W 256 L0 yc yn t7 t8) (hr : r < 11) (r7 : r ≠ 7) (r8 : r ≠ 8) (hk8 : kd < 8) (hS : L0 r = some S) (hT : t7.length < 256)
    (k : ∀ c' n', ur_W 256 L0 c' n' (t7 ++ ur_on (ur_B S kd).isSome [c]) t8 → post (ur_y lim cnt c' n' ys ye)) : wpY_mark post (ur_y lim cnt yc yn ys ye) (nI r) (nI kd) c := by
  obtain ⟨L, hM, h7, h8, hk⟩ := h
  exact ya_mark r kd hM hr hk8 h7 ((hk r r7 r8).trans hS) hT (fun m' l' h' => k m' l' (ur_W7 h' h8 hk))
theorem yw_begin {post : Int32 → Prop} (r kd : Nat) (h : ur_W 256 L0 yc yn t7 t8) (hr : r < 11) (r7 : r ≠ 7) (r8 : r ≠ 8) (hk8 : kd < 8) (hS : L0 r = some S) (k : post (ur_E S kd 0)) : wpY_begin post (ur_y lim cnt yc yn ys ye) (nI r) (nI kd) := by
  obtain ⟨L, hM, h7, h8, hk⟩ := h
  exact ya_begin r kd hM hr ((hk r r7 r8).trans hS) hk8 k
theorem yw_end {post : Int32 → Prop} (r kd : Nat) (h : ur_W 256 L0 yc yn t7 t8) (hr : r < 11) (r7 : r ≠ 7) (r8 : r ≠ 8) (hk8 : kd < 8) (hS : L0 r = some S) (k : post (ur_E S kd 1)) : wpY_end post (ur_y lim cnt yc yn ys ye) (nI r) (nI kd) := by
  obtain ⟨L, hM, h7, h8, hk⟩ := h
  exact ya_end r kd hM hr ((hk r r7 r8).trans hS) hk8 k
theorem yw_at {post : Int32 → Prop} (r i : Nat) (h : ur_W 256 L0 yc yn t7 t8) (hr : r < 11) (r7 : r ≠ 7) (r8 : r ≠ 8) (hS : L0 r = some S) (hi : i < 2 ^ 31) (k : post (ur_at S i)) : wpY_at post (ur_y lim cnt yc yn ys ye) (nI r) (nI i) := by
  obtain ⟨L, hM, h7, h8, hk⟩ := h
  exact ya_at r i hM hr ((hk r r7 r8).trans hS) hi k
theorem yw_clean87 {post : SY → Prop} {au : Bool} (h : ur_W 256 L0 yc yn t7 t8) (hl : t8.length ≤ 200) (hl2 : t7.length + t8.length ≤ 250) (k : ∀ c' n' s' e', ur_W 256 L0 c' n' (t7 ++ ur_clean au t8) t8 → post (ur_y lim cnt c' n' s' e')) : wpY_clean post (ur_y lim cnt yc yn ys ye) 8 0 (yn 8) (ur_b au) 7 := by
  obtain ⟨L, hM, h7, h8, hk⟩ := h
  rw [ur_M_len hM (by decide) h8]
  refine ya_clean 8 0 t8.length 7 hM (by decide) (by decide) (by decide) h8 h7 (Nat.zero_le _) (Nat.le_refl _) (by omega) (by omega) (fun c' n' s' e' h' => ?_)
  rw [ur_ex_full] at h'
  exact k c' n' s' e' (ur_W7 h' h8 hk)
theorem yw_cleanr7 {post : SY → Prop} {au : Bool} (r a z : Nat) (h : ur_W 256 L0 yc yn t7 t8) (hr : r < 11) (r7 : r ≠ 7) (r8 : r ≠ 8) (hS : L0 r = some S) (ha : a ≤ z) (hz : z ≤ S.length) (hl : z - a ≤ 200) (hl2 : t7.length + (z - a) ≤ 250) (k : ∀ c' n' s' e', ur_W 256 L0 c' n' (t7 ++ ur_clean au (ur_ex S a z)) t8 → post (ur_y lim cnt c' n' s' e')) : wpY_clean post (ur_y lim cnt yc yn ys ye) (nI r) (nI a) (nI z) (ur_b au) 7 := by
  obtain ⟨L, hM, h7, h8, hk⟩ := h
  exact ya_clean r a z 7 hM hr (by decide) r7.symm ((hk r r7 r8).trans hS) h7 ha hz hl hl2 (fun c' n' s' e' h' => k c' n' s' e' (ur_W7 h' h8 hk))
theorem yw_cleanr8 {post : SY → Prop} {au : Bool} (r a z : Nat) (h : ur_W 256 L0 yc yn t7 t8) (hr : r < 11) (r7 : r ≠ 7) (r8 : r ≠ 8) (hS : L0 r = some S) (ha : a ≤ z) (hz : z ≤ S.length) (hl : z - a ≤ 200) (hl2 : t8.length + (z - a) ≤ 250) (k : ∀ c' n' s' e', ur_W 256 L0 c' n' t7 (t8 ++ ur_clean au (ur_ex S a z)) → post (ur_y lim cnt c' n' s' e')) : wpY_clean post (ur_y lim cnt yc yn ys ye) (nI r) (nI a) (nI z) (ur_b au) 8 := by
  obtain ⟨L, hM, h7, h8, hk⟩ := h
  exact ya_clean r a z 8 hM hr (by decide) r8.symm ((hk r r7 r8).trans hS) h8 ha hz hl hl2 (fun c' n' s' e' h' => k c' n' s' e' (ur_W8 h' h7 hk))
theorem yw_app8 {post : SY → Prop} (r a z : Nat) (h : ur_W 256 L0 yc yn t7 t8) (hr : r < 11) (r7 : r ≠ 7) (r8 : r ≠ 8) (hS : L0 r = some S) (ha : a ≤ 2000) (hz : z ≤ S.length) (hl : t8.length + (z - a) ≤ 256) (k : ∀ c' n', ur_W 256 L0 c' n' t7 (t8 ++ ur_ex S a z) → post (ur_y lim cnt c' n' ys ye)) : wpY_append post (ur_y lim cnt yc yn ys ye) 8 (nI r) (nI a) (nI z) := by
  obtain ⟨L, hM, h7, h8, hk⟩ := h
  exact ya_append 8 r a z hM (by decide) hr r8.symm h8 ((hk r r7 r8).trans hS) hz ha hl (fun c' n' h' => k c' n' (ur_W8 h' h7 hk))
end
end
section
/-! the normal form, both sides -/
def ur_n6 (T : List Int32) : List Int32 := ur_on (ur_B T 6).isSome (35 :: ur_dec false (ur_C T 6))
def ur_n5 (T : List Int32) : List Int32 := ur_on (ur_B T 5).isSome (63 :: ur_dec false (ur_C T 5)) ++ ur_n6 T
def ur_n4 (T : List Int32) : List Int32 := ur_clean (ur_au T) (ur_dec false (ur_C T 4)) ++ ur_n5 T
def ur_n3 (T : List Int32) : List Int32 := ur_on (!(ur_C T 3).isEmpty) (58 :: ur_C T 3)
def ur_n2 (T : List Int32) : List Int32 := ur_dec true (ur_C T 2) ++ ur_n3 T
def ur_n1 (T : List Int32) : List Int32 := ur_on (ur_B T 1).isSome (ur_dec false (ur_C T 1) ++ [64]) ++ ur_n2 T
def ur_n7 (T : List Int32) : List Int32 := ur_on (ur_au T) (47 :: 47 :: ur_n1 T)
def ur_n0 (T : List Int32) : List Int32 := ur_on (ur_B T 0).isSome (ur_dec true (ur_C T 0) ++ [58])
/-- the normal form -/
def ur_nm (T : List Int32) : List Int32 := ur_n0 T ++ (ur_n7 T ++ ur_n4 T)
theorem ur_on_t (x : List Int32) : ur_on true x = x := rfl
theorem ur_on_f (x : List Int32) : ur_on false x = [] := rfl
theorem ur_B7s (T : List Int32) : (ur_B T 7).isSome = ur_au T := by
  rw [ur_B7]; cases ur_au T <;> rfl
section
variable {T : List Int32}
theorem ur_l0 (T : List Int32) : (ur_C T 0).length ≤ ur_sb T := by
  unfold ur_C
  rw [ur_B0]
  split
  · exact Nat.zero_le _
  · rename_i p hp
    split at hp
    · cases hp
    · cases hp
      have := ur_sb_le T
      rw [ur_ex_len (by omega)]; omega
theorem ur_l0' (h : (ur_B T 0).isSome = true) : (ur_C T 0).length + 1 = ur_sb T := by
  have hB := ur_B0 T
  by_cases z : ur_sb T = 0
  · rw [if_pos z] at hB; rw [hB] at h; cases h
  · rw [if_neg z] at hB
    have := ur_sb_le T
    rw [ur_C_s hB, ur_ex_len (by omega)]; omega
theorem ur_l7 (au : ur_au T = true) : (ur_C T 1).length + (ur_C T 2).length + (ur_C T 3).length + ur_sb T + 2 ≤ ur_e T := by
  have a1 := ur_e_lo2 au
  have a2 := ur_u_lo au
  have a3 := ur_u_hi au
  have a4 := ur_h_lo au
  have a5 := ur_h_hi au
  have a6 := ur_p_lo au
  have a7 := ur_p_hi au
  have a8 := ur_e_le T
  have hB2 : ur_B T 2 = some (ur_h T, ur_p T) := by rw [ur_B2, if_neg (by rw [au]; decide)]
  have l2 : (ur_C T 2).length = ur_p T - ur_h T := by rw [ur_C_s hB2, ur_ex_len (by omega)]
  have l1 : (ur_C T 1).length + ur_sb T + 2 ≤ ur_h T := by
    have hB1 : ur_B T 1 = if ur_u T = ur_e T then none else some (ur_sb T + 2, ur_u T) := by rw [ur_B1, if_neg (by rw [au]; decide)]
    by_cases z : ur_u T = ur_e T
    · rw [if_pos z] at hB1; rw [ur_C_n hB1, List.length_nil]; omega
    · rw [if_neg z] at hB1
      have : ur_h T = ur_u T + 1 := by unfold ur_h; rw [if_pos (by omega)]
      rw [ur_C_s hB1, ur_ex_len (by omega)]; omega
  have l3 : (ur_C T 3).length + ur_p T ≤ ur_e T := by
    have hB3 : ur_B T 3 = if ur_hp T = true then some (ur_p T + 1, ur_e T) else none := by rw [ur_B3, if_neg (by rw [au]; decide)]
    by_cases z : ur_hp T = true
    · rw [if_pos z] at hB3; rw [ur_C_s hB3, ur_ex_len (by omega)]; omega
    · rw [if_neg z] at hB3; rw [ur_C_n hB3, List.length_nil]; omega
  omega
theorem ur_c7f (au : ur_au T = false) : ur_C T 1 = [] ∧ ur_C T 2 = [] ∧ ur_C T 3 = [] ∧ ur_C T 7 = [] :=
  ⟨ur_C_n (by rw [ur_B1, if_pos au]), ur_C_n (by rw [ur_B2, if_pos au]), ur_C_n (by rw [ur_B3, if_pos au]), ur_C_n (by rw [ur_B7, if_pos au])⟩
theorem ur_l4 (T : List Int32) : (ur_C T 4).length = ur_q T - ur_e T := by rw [ur_C_s (ur_B4 T), ur_ex_len (ur_q_le T)]
theorem ur_l5 (T : List Int32) : (ur_C T 5).length ≤ ur_f T - ur_q T := by
  have hB := ur_B5 T
  have := ur_f_hi T
  by_cases z : ur_q T = ur_f T
  · rw [if_pos z] at hB; rw [ur_C_n hB]; exact Nat.zero_le _
  · rw [if_neg z] at hB; rw [ur_C_s hB, ur_ex_len (by omega)]; omega
theorem ur_l6 (T : List Int32) : (ur_C T 6).length ≤ T.length - ur_f T := by
  have hB := ur_B6 T
  have := ur_f_hi T
  by_cases z : ur_f T = T.length
  · rw [if_pos z] at hB; rw [ur_C_n hB]; exact Nat.zero_le _
  · rw [if_neg z] at hB; rw [ur_C_s hB, ur_ex_len (by omega)]; omega
theorem ur_sum (T : List Int32) : (ur_C T 0).length + ((ur_C T 1).length + (ur_C T 2).length + (ur_C T 3).length) + (ur_C T 4).length + (ur_C T 5).length + (ur_C T 6).length ≤ T.length := by
  have a0 := ur_l0 T
  have a4 := ur_l4 T
  have a5 := ur_l5 T
  have a6 := ur_l6 T
  have e1 := ur_e_hi T
  have e2 := ur_q_hi T
  have e3 := ur_f_hi T
  have e4 := ur_e_lo T
  cases au : ur_au T
  · obtain ⟨c1, c2, c3, _⟩ := ur_c7f au
    rw [c1, c2, c3]; simp only [List.length_nil]; omega
  · have := ur_l7 au; omega
end
section
variable {bh lim cnt : Int32} {m l fa ta wa : Nat → Int32} {L0 : Nat → Option (List Int32)} {t7 t8 T : List Int32}
theorem xs_n150 {post : SX → Prop} (r : Nat) (hr : r < 7) (hS : L0 r = some T) (h40 : T.length ≤ 128) (hB : ur_BX r T fa ta) (h : ur_W 128 L0 m l t7 t8) (hl : t7.length + 1 + (ur_C T 6).length ≤ 128)
    (k : ∀ m' l', ur_W 128 L0 m' l' (t7 ++ ur_n6 T) t8 → post (ur_x bh lim cnt m' l' fa ta wa)) : wX_buildNormal_150 post (nI r) (nI (r * 8)) 128 6 7 8 9 10 bh lim cnt m l fa ta wa := by
  have v6 : vp_in (nI (r * 8) + 6) 88 := ur_iv r 6 (by omega) (by decide)
  have i6 : (nI (r * 8) + 6).toNatClampNeg = r * 8 + 6 := ur_ic r 6 (by omega) (by decide)
  unfold wX_buildNormal_150
  rw [i6]
  unfold ur_n6 at k
  refine xa_has r 6 (by omega) (by decide) hB h40 (ur_br (fun z => ?_) (fun z => ?_))
  · rw [z, ur_on_f, List.append_nil] at k; exact k m l h
  · rw [z, ur_on_t] at k
    refine xw_add7 h (by omega) (fun m1 l1 h1 => ⟨v6, v6, ?_⟩)
    refine xw_norm7 (lo := false) r 6 h1 (by omega) (by omega) (by omega) hS (by rw [List.length_append, List.length_singleton]; omega) (hB 6 (by decide)).1 (hB 6 (by decide)).2 (fun m2 l2 h2 => ?_)
    rw [List.append_assoc] at h2
    exact k m2 l2 h2
theorem xs_n70 {post : SX → Prop} (r : Nat) (hr : r < 7) (hS : L0 r = some T) (h40 : T.length ≤ 100) (hB : ur_BX r T fa ta) (h : ur_W 128 L0 m l t7 t8) (hl : t7.length + ((ur_C T 4).length + 2) + (1 + (ur_C T 5).length) + (1 + (ur_C T 6).length) ≤ 128)
    (k : ∀ m' l' t8, ur_W 128 L0 m' l' (t7 ++ ur_n4 T) t8 → post (ur_x bh lim cnt m' l' fa ta wa)) : wX_buildNormal_70 post (nI r) (nI (r * 8)) (ur_b (ur_au T)) 128 6 7 8 9 10 bh lim cnt m l fa ta wa := by
  have v4 : vp_in (nI (r * 8) + 4) 88 := ur_iv r 4 (by omega) (by decide)
  have i4 : (nI (r * 8) + 4).toNatClampNeg = r * 8 + 4 := ur_ic r 4 (by omega) (by decide)
  have v5 : vp_in (nI (r * 8) + 5) 88 := ur_iv r 5 (by omega) (by decide)
  have i5 : (nI (r * 8) + 5).toNatClampNeg = r * 8 + 5 := ur_ic r 5 (by omega) (by decide)
  have s4 := ur_sum T
  have d4 := ur_dec_len (lo := false) (ur_C T 4)
  have c4 := ur_clean_len (ur_au T) (ur_dec false (ur_C T 4))
  have d5 := ur_dec_len (lo := false) (ur_C T 5)
  unfold wX_buildNormal_70
  rw [i4, i5]
  refine nm_e ⟨v4, v4, ?_⟩
  refine xw_norm8 (lo := false) r 4 (ur_W_n8 h) (by omega) (by omega) (by omega) hS (by rw [List.length_nil]; omega) (hB 4 (by decide)).1 (hB 4 (by decide)).2 (fun m1 l1 h1 => ?_)
  rw [List.nil_append] at h1
  refine xw_clean h1 (by omega) (fun m2 l2 h2 => ?_)
  refine xw_print h2 (by omega) (fun m3 l3 h3 => ?_)
  unfold ur_n4 ur_n5 at k
  refine xa_has r 5 (by omega) (by decide) hB (by omega) (ur_br (fun z => ?_) (fun z => ?_))
  · refine xs_n150 r hr hS (by omega) hB h3 (by rw [List.length_append]; omega) (fun m' l' h' => k m' l' (ur_clean (ur_au T) (ur_dec false (ur_C T 4))) ?_)
    rw [z, ur_on_f, List.nil_append]
    rw [List.append_assoc] at h'
    exact h'
  · refine xw_add7 h3 (by rw [List.length_append]; omega) (fun m4 l4 h4 => ⟨v5, v5, ?_⟩)
    refine xw_norm7 (lo := false) r 5 h4 (by omega) (by omega) (by omega) hS (by rw [List.length_append, List.length_append, List.length_singleton]; omega) (hB 5 (by decide)).1 (hB 5 (by decide)).2 (fun m5 l5 h5 => ?_)
    refine xs_n150 r hr hS (by omega) hB h5 (by rw [List.length_append, List.length_append, List.length_append, List.length_singleton]; omega) (fun m' l' h' => k m' l' (ur_clean (ur_au T) (ur_dec false (ur_C T 4))) ?_)
    rw [z, ur_on_t]
    rw [List.append_assoc, List.append_assoc, List.append_assoc, List.singleton_append] at h'
    exact h'
theorem ur_lt_C3 (r : Nat) {T : List Int32} (h8 : T.length ≤ 128) (hr : r < 11) {A B : Prop} (f : (ur_C T 3).isEmpty = true → A) (g : (ur_C T 3).isEmpty = false → B) : (ur_tX r T 3 ≤ ur_fX r T 3 → A) ∧ (¬ ur_tX r T 3 ≤ ur_fX r T 3 → B) := by
  cases hB : ur_B T 3 with
  | none => rw [ur_tX_n hB, ur_fX_n hB]; exact br_t (by decide) (f (by rw [ur_C_n hB]; rfl))
  | some p =>
    have q := ur_B_b (a := p.1) (b := p.2) hB
    rw [ur_tX_s (a := p.1) (b := p.2) hB, ur_fX_s (a := p.1) (b := p.2) hB]
    rw [ur_C_s (a := p.1) (b := p.2) hB] at f g
    refine pk_le (r * 128 + p.2) (r * 128 + p.1) (fun z => f ?_) (fun z => g ?_)
    · rw [ur_ex_nil (by omega)]; rfl
    · rw [ur_ex_cons (by omega) q.2]; rfl
theorem ur_3s {T : List Int32} (h : (ur_C T 3).isEmpty = false) : (ur_B T 3).isSome = true := by
  cases hB : ur_B T 3 with
  | none => rw [ur_C_n hB] at h; cases h
  | some p => rfl
theorem xs_n61 {post : SX → Prop} (r : Nat) (hr : r < 7) (hS : L0 r = some T) (h40 : T.length ≤ 128) (hB : ur_BX r T fa ta) (h : ur_W 128 L0 m l t7 t8) (hl : t7.length + (ur_C T 2).length + 1 + (ur_C T 3).length ≤ 128)
    (k : ∀ m' l', ur_W 128 L0 m' l' (t7 ++ ur_n2 T) t8 → post (ur_x bh lim cnt m' l' fa ta wa)) : wX_normalAuthority_61 post (nI r) (nI (r * 8)) 128 6 7 8 9 10 bh lim cnt m l fa ta wa := by
  have v2 : vp_in (nI (r * 8) + 2) 88 := ur_iv r 2 (by omega) (by decide)
  have i2 : (nI (r * 8) + 2).toNatClampNeg = r * 8 + 2 := ur_ic r 2 (by omega) (by decide)
  have v3 : vp_in (nI (r * 8) + 3) 88 := ur_iv r 3 (by omega) (by decide)
  have i3 : (nI (r * 8) + 3).toNatClampNeg = r * 8 + 3 := ur_ic r 3 (by omega) (by decide)
  have d2 := ur_dec_len (lo := true) (ur_C T 2)
  unfold wX_normalAuthority_61
  rw [i2, i3]
  refine ⟨v2, v2, xw_norm7 (lo := true) r 2 h (by omega) (by omega) (by omega) hS (by omega) (hB 2 (by decide)).1 (hB 2 (by decide)).2 (fun m1 l1 h1 => ⟨v3, v3, ?_⟩)⟩
  unfold ur_n2 ur_n3 at k
  dsimp only
  rw [(hB 3 (by decide)).1, (hB 3 (by decide)).2]
  refine ur_lt_C3 r h40 (by omega) (fun z => ?_) (fun z => ?_)
  · rw [z, show ur_on (!true) (58 :: ur_C T 3) = [] from rfl, List.append_nil] at k
    exact k m1 l1 h1
  · refine xw_after r 3 h1 (by omega) (by decide) (by omega) (by omega) hS hB h40 (by rw [List.length_append]; omega) (fun m2 l2 h2 => k m2 l2 ?_)
    rw [z]
    rw [ur_3s z, List.append_assoc] at h2
    exact h2
theorem xs_nauth {post : SX → Prop} (r : Nat) (hr : r < 7) (hS : L0 r = some T) (h40 : T.length ≤ 128) (hB : ur_BX r T fa ta) (h : ur_W 128 L0 m l t7 t8) (hl : t7.length + 2 + ((ur_C T 1).length + 1) + (ur_C T 2).length + 1 + (ur_C T 3).length ≤ 128)
    (k : ∀ m' l', ur_W 128 L0 m' l' (t7 ++ (47 :: 47 :: ur_n1 T)) t8 → post (ur_x bh lim cnt m' l' fa ta wa)) : wpX_normalAuthority post (ur_x bh lim cnt m l fa ta wa) (nI r) := by
  have v1 : vp_in (nI (r * 8) + 1) 88 := ur_iv r 1 (by omega) (by decide)
  have i1 : (nI (r * 8) + 1).toNatClampNeg = r * 8 + 1 := ur_ic r 1 (by omega) (by decide)
  have d1 := ur_dec_len (lo := false) (ur_C T 1)
  unfold wpX_normalAuthority
  refine nm_r (ur_m8 r) ?_
  refine xw_add7 h (by omega) (fun m1 l1 h1 => ?_)
  refine xw_add7 h1 (by rw [List.length_append, List.length_singleton]; omega) (fun m2 l2 h2 => ?_)
  rw [List.append_assoc] at h2
  unfold ur_n1 at k
  refine xa_has r 1 (by omega) (by decide) hB h40 (ur_br (fun z => ?_) (fun z => ⟨v1, v1, ?_⟩))
  · refine xs_n61 r hr hS h40 hB h2 (by simp only [List.length_append, List.length_singleton]; omega) (fun m' l' h' => k m' l' ?_)
    rw [z, ur_on_f, List.nil_append]
    rw [List.append_assoc] at h'
    exact h'
  · rw [i1]
    refine xw_norm7 (lo := false) r 1 h2 (by omega) (by omega) (by omega) hS (by simp only [List.length_append, List.length_singleton]; omega) (hB 1 (by decide)).1 (hB 1 (by decide)).2 (fun m3 l3 h3 => ?_)
    refine xw_add7 h3 (by simp only [List.length_append, List.length_singleton]; omega) (fun m4 l4 h4 => ?_)
    refine xs_n61 r hr hS h40 hB h4 (by simp only [List.length_append, List.length_singleton]; omega) (fun m' l' h' => k m' l' ?_)
    rw [z, ur_on_t]
    simp only [List.append_assoc, List.singleton_append, List.cons_append, List.nil_append] at h' ⊢
    exact h'
theorem xs_n53 {post : SX → Prop} (r : Nat) (hr : r < 7) (hS : L0 r = some T) (h40 : T.length ≤ 100) (hB : ur_BX r T fa ta) (h : ur_W 128 L0 m l t7 t8)
    (hl : t7.length + 2 + ((ur_C T 1).length + 1) + (ur_C T 2).length + 1 + (ur_C T 3).length + ((ur_C T 4).length + 2) + (1 + (ur_C T 5).length) + (1 + (ur_C T 6).length) ≤ 128)
    (k : ∀ m' l' t8, ur_W 128 L0 m' l' (t7 ++ (ur_n7 T ++ ur_n4 T)) t8 → post (ur_x bh lim cnt m' l' fa ta wa)) : wX_buildNormal_53 post (nI r) (nI (r * 8)) 128 6 7 8 9 10 bh lim cnt m l fa ta wa := by
  unfold wX_buildNormal_53
  unfold ur_n7 at k
  refine xa_has r 7 (by omega) (by decide) hB (by omega) ?_
  rw [ur_B7s]
  refine ur_br (fun z => ?_) (fun z => ?_)
  · rw [z, ur_on_f, List.nil_append] at k
    exact xs_n70 r hr hS h40 hB h (by omega) k
  · have n1 : (ur_n1 T).length ≤ (ur_C T 1).length + 1 + (ur_C T 2).length + 1 + (ur_C T 3).length := by
      have d1 := ur_dec_len (lo := false) (ur_C T 1)
      have d2 := ur_dec_len (lo := true) (ur_C T 2)
      unfold ur_n1 ur_n2 ur_n3 ur_on
      simp only [List.length_append]
      split <;> split <;> simp only [List.length_append, List.length_cons, List.length_nil] <;> omega
    refine xs_nauth r hr hS (by omega) hB h (by omega) (fun m1 l1 h1 => ?_)
    refine xs_n70 r hr hS h40 hB h1 (by simp only [List.length_append, List.length_cons]; omega) (fun m' l' t8 h' => k m' l' t8 ?_)
    rw [z, ur_on_t]
    rw [List.append_assoc] at h'
    exact h'
/-- buildNormal -/
theorem xa_bn {post : SX → Prop} (r : Nat) (hr : r < 7) (hS : L0 r = some T) (h40 : T.length ≤ 100) (hB : ur_BX r T fa ta) (h : ur_W 128 L0 m l t7 t8)
    (k : ∀ m' l' t8, ur_W 128 L0 m' l' (ur_nm T) t8 → post (ur_x bh lim cnt m' l' fa ta wa)) : wpX_buildNormal post (ur_x bh lim cnt m l fa ta wa) (nI r) := by
  have v0 : vp_in (nI (r * 8) + 0) 88 := ur_iv r 0 (by omega) (by decide)
  have i0 : (nI (r * 8) + 0).toNatClampNeg = r * 8 + 0 := ur_ic r 0 (by omega) (by decide)
  have s := ur_sum T
  have d0 := ur_dec_len (lo := true) (ur_C T 0)
  unfold wpX_buildNormal
  refine nm_r (ur_m8 r) (nm_e ?_)
  rw [i0]
  unfold ur_nm ur_n0 at k
  have h0 := ur_W_n7 h
  refine xa_has r 0 (by omega) (by decide) hB (by omega) (ur_br (fun z => ?_) (fun z => ⟨v0, v0, ?_⟩))
  · rw [z, ur_on_f, List.nil_append] at k
    exact xs_n53 r hr hS h40 hB h0 (by rw [List.length_nil]; omega) k
  · rw [z, ur_on_t] at k
    refine xw_norm7 (lo := true) r 0 h0 (by omega) (by omega) (by omega) hS (by rw [List.length_nil]; omega) (hB 0 (by decide)).1 (hB 0 (by decide)).2 (fun m1 l1 h1 => ?_)
    rw [List.nil_append] at h1
    refine xw_add7 h1 (by omega) (fun m2 l2 h2 => ?_)
    exact xs_n53 r hr hS h40 hB h2 (by rw [List.length_append, List.length_singleton]; omega) k
end
end
section
/-! the reference's normal form -/
theorem ur_onc {T : List Int32} {lo : Bool} (k : Nat) (c : Int32) : ur_on (ur_B T k).isSome [c] ++ ur_dec lo (ur_C T k) = ur_on (ur_B T k).isSome (c :: ur_dec lo (ur_C T k)) := by
  cases hB : ur_B T k with
  | none => rw [ur_C_n hB]; rfl
  | some p => rfl
theorem ur_onr {T : List Int32} (k : Nat) (c : Int32) : ur_on (ur_B T k).isSome [c] ++ ur_C T k = ur_on (ur_B T k).isSome (c :: ur_C T k) := by
  cases hB : ur_B T k with
  | none => rw [ur_C_n hB]; rfl
  | some p => rfl
theorem ur_ond {T : List Int32} {lo : Bool} (k : Nat) (c : Int32) : ur_dec lo (ur_C T k) ++ ur_on (ur_B T k).isSome [c] = ur_on (ur_B T k).isSome (ur_dec lo (ur_C T k) ++ [c]) := by
  cases hB : ur_B T k with
  | none => rw [ur_C_n hB]; rfl
  | some p => rfl
theorem ur_ons {T : List Int32} (k : Nat) (c : Int32) : ur_C T k ++ ur_on (ur_B T k).isSome [c] = ur_on (ur_B T k).isSome (ur_C T k ++ [c]) := by
  cases hB : ur_B T k with
  | none => rw [ur_C_n hB]; rfl
  | some p => rfl
theorem ur_on_len (b : Bool) (c : Int32) : (ur_on b [c]).length ≤ 1 := by
  cases b
  · exact Nat.zero_le _
  · exact Nat.le_refl _
section
variable {lim cnt : Int32} {yc yn ys ye : Nat → Int32} {L0 : Nat → Option (List Int32)} {t7 t8 T : List Int32}
theorem ys_n119 {post : SY → Prop} (r : Nat) (hr : r < 7) (hS : L0 r = some T) (h40 : T.length ≤ 100) (hev : ∀ k, k < 7 → k ≠ 3 → ur_ev (ur_C T k) = true) (h : ur_W 256 L0 yc yn t7 []) (hl : t7.length ≤ 120)
    (k : ∀ c' n' s' e' t8, ur_W 256 L0 c' n' (t7 ++ ur_n4 T) t8 → post (ur_y lim cnt c' n' s' e')) : wY_normal_119 post (nI r) (ur_b (ur_au T)) lim cnt yc yn ys ye := by
  have s4 := ur_sum T
  have d4 := ur_dec_len (lo := false) (ur_C T 4)
  have c4 := ur_clean_len (ur_au T) (ur_dec false (ur_C T 4))
  have d5 := ur_dec_len (lo := false) (ur_C T 5)
  have o5 := ur_on_len (ur_B T 5).isSome 63
  have o6 := ur_on_len (ur_B T 6).isSome 35
  unfold wY_normal_119
  refine yw_dec8 r 4 h (by omega) (by omega) (by omega) (by decide) hS (hev 4 (by decide) (by decide)) (by rw [List.length_nil]; omega) (fun c1 n1 h1 => ?_)
  rw [List.nil_append, show ur_kl 4 = false from rfl] at h1
  refine yw_clean87 h1 (by omega) (by omega) (fun c2 n2 s2 e2 h2 => ?_)
  refine yw_mark r 5 h2 (by omega) (by omega) (by omega) (by decide) hS (by rw [List.length_append]; omega) (fun c3 n3 h3 => ?_)
  refine yw_dec7 r 5 h3 (by omega) (by omega) (by omega) (by decide) hS (hev 5 (by decide) (by decide)) (by simp only [List.length_append]; omega) (fun c4 n4 h4 => ?_)
  rw [show ur_kl 5 = false from rfl, List.append_assoc _ _ (ur_dec false (ur_C T 5)), ur_onc] at h4
  have l4 : (ur_on (ur_B T 5).isSome (63 :: ur_dec false (ur_C T 5))).length ≤ 1 + (ur_C T 5).length := by
    rw [← ur_onc, List.length_append]; omega
  refine yw_mark r 6 h4 (by omega) (by omega) (by omega) (by decide) hS (by simp only [List.length_append]; omega) (fun c5 n5 h5 => ?_)
  refine yw_dec7 r 6 h5 (by omega) (by omega) (by omega) (by decide) hS (hev 6 (by decide) (by decide)) (by simp only [List.length_append]; omega) (fun c6 n6 h6 => ?_)
  rw [show ur_kl 6 = false from rfl, List.append_assoc _ _ (ur_dec false (ur_C T 6)), ur_onc, List.append_assoc, List.append_assoc] at h6
  exact k c6 n6 s2 e2 _ h6
theorem ur_lt_E3 {T : List Int32} (h8 : T.length ≤ 256) {A B : Prop} (f : (ur_C T 3).isEmpty = true → A) (g : (ur_C T 3).isEmpty = false → B) : (ur_E T 3 1 ≤ ur_E T 3 0 → A) ∧ (¬ ur_E T 3 1 ≤ ur_E T 3 0 → B) := by
  cases hB : ur_B T 3 with
  | none => rw [ur_E_n hB, ur_E_n hB]; exact br_t (by decide) (f (by rw [ur_C_n hB]; rfl))
  | some p =>
    have q := ur_B_b (a := p.1) (b := p.2) hB
    rw [ur_E_0 (a := p.1) (b := p.2) hB, ur_E_1 (a := p.1) (b := p.2) hB]
    rw [ur_C_s (a := p.1) (b := p.2) hB] at f g
    refine pk_le p.2 p.1 (fun z => f ?_) (fun z => g ?_)
    · rw [ur_ex_nil (by omega)]; rfl
    · rw [ur_ex_cons (by omega) q.2]; rfl
theorem ys_n15 {post : SY → Prop} (r : Nat) (hr : r < 7) (hS : L0 r = some T) (h40 : T.length ≤ 100) (hev : ∀ k, k < 7 → k ≠ 3 → ur_ev (ur_C T k) = true) (h : ur_W 256 L0 yc yn t7 t8)
    (k : ∀ c' n' s' e' t8, ur_W 256 L0 c' n' (ur_nm T) t8 → post (ur_y lim cnt c' n' s' e')) : wY_normal_15 post (nI r) (ur_b (ur_au T)) lim cnt yc yn ys ye := by
  have s4 := ur_sum T
  have d0 := ur_dec_len (lo := true) (ur_C T 0)
  have d1 := ur_dec_len (lo := false) (ur_C T 1)
  have d2 := ur_dec_len (lo := true) (ur_C T 2)
  have o0 := ur_on_len (ur_B T 0).isSome 58
  have o1 := ur_on_len (ur_B T 1).isSome 64
  have o7 := ur_on_len (ur_B T 7).isSome 47
  unfold wY_normal_15
  refine nm_e (nm_e ?_)
  refine yw_dec7 r 0 (ur_W_n8 (ur_W_n7 h)) (by omega) (by omega) (by omega) (by decide) hS (hev 0 (by decide) (by decide)) (by rw [List.length_nil]; omega) (fun c1 n1 h1 => ?_)
  rw [List.nil_append, show ur_kl 0 = true from rfl] at h1
  refine yw_mark r 0 h1 (by omega) (by omega) (by omega) (by decide) hS (by omega) (fun c2 n2 h2 => ?_)
  refine yw_mark r 7 h2 (by omega) (by omega) (by omega) (by decide) hS (by simp only [List.length_append]; omega) (fun c3 n3 h3 => ?_)
  refine yw_mark r 7 h3 (by omega) (by omega) (by omega) (by decide) hS (by simp only [List.length_append]; omega) (fun c4 n4 h4 => ?_)
  refine yw_dec7 r 1 h4 (by omega) (by omega) (by omega) (by decide) hS (hev 1 (by decide) (by decide)) (by simp only [List.length_append]; omega) (fun c5 n5 h5 => ?_)
  rw [show ur_kl 1 = false from rfl] at h5
  refine yw_mark r 1 h5 (by omega) (by omega) (by omega) (by decide) hS (by simp only [List.length_append]; omega) (fun c6 n6 h6 => ?_)
  refine yw_dec7 r 2 h6 (by omega) (by omega) (by omega) (by decide) hS (hev 2 (by decide) (by decide)) (by simp only [List.length_append]; omega) (fun c7 n7 h7 => ?_)
  rw [show ur_kl 2 = true from rfl] at h7
  have fin : ∀ c' n' t, t = ur_n3 T → ur_W 256 L0 c' n' (ur_dec true (ur_C T 0) ++ ur_on (ur_B T 0).isSome [58] ++ ur_on (ur_B T 7).isSome [47] ++ ur_on (ur_B T 7).isSome [47] ++ ur_dec false (ur_C T 1) ++ ur_on (ur_B T 1).isSome [64] ++ ur_dec true (ur_C T 2) ++ t) [] →
      wY_normal_119 post (nI r) (ur_b (ur_au T)) lim cnt c' n' ys ye := by
    intro c' n' t ht h'
    have l3 : t.length ≤ 1 + (ur_C T 3).length := by
      rw [ht]; unfold ur_n3 ur_on; split <;> simp only [List.length_cons, List.length_nil] <;> omega
    refine ys_n119 r hr hS h40 hev h' (by simp only [List.length_append]; omega) (fun c2 n2 s2 e2 t8 h2 => k c2 n2 s2 e2 t8 ?_)
    have e : ur_nm T = ur_dec true (ur_C T 0) ++ ur_on (ur_B T 0).isSome [58] ++ ur_on (ur_B T 7).isSome [47] ++ ur_on (ur_B T 7).isSome [47] ++ ur_dec false (ur_C T 1) ++ ur_on (ur_B T 1).isSome [64] ++ ur_dec true (ur_C T 2) ++ t ++ ur_n4 T := by
      rw [ht]
      unfold ur_nm ur_n0 ur_n7
      rw [← ur_ond, ur_B7s]
      unfold ur_n1 ur_n2
      rw [← ur_ond]
      cases au : ur_au T
      · obtain ⟨g1, g2, g3, _⟩ := ur_c7f au
        have b1 : (ur_B T 1).isSome = false := by rw [ur_B1, if_pos au]; rfl
        unfold ur_n3
        rw [g1, g2, g3, b1]
        simp only [ur_on_f, List.append_nil, List.nil_append, ur_dec, List.isEmpty_nil, Bool.not_true]
      · simp only [ur_on_t, List.append_assoc, List.cons_append, List.nil_append]
    rw [e]
    exact h2
  refine yw_begin r 3 h7 (by omega) (by omega) (by omega) (by decide) hS (yw_end r 3 h7 (by omega) (by omega) (by omega) (by decide) hS ?_)
  refine ur_lt_E3 (by omega) (fun z => ?_) (fun z => ?_)
  · have e3 : [] = ur_n3 T := by unfold ur_n3; rw [z]; rfl
    exact fin c7 n7 [] e3 (by rw [List.append_nil]; exact h7)
  · have e3 : 58 :: ur_C T 3 = ur_n3 T := by unfold ur_n3; rw [z]; rfl
    refine yw_add7 h7 (by simp only [List.length_append]; omega) (fun c8 n8 h8 => ?_)
    refine yw_raw r 3 h8 (by omega) (by omega) (by omega) (by decide) hS (by simp only [List.length_append, List.length_singleton]; omega) (fun c9 n9 h9 => ?_)
    rw [List.append_assoc _ [58], List.singleton_append] at h9
    exact fin c9 n9 _ e3 h9
/-- normal -/
theorem ya_normal {post : SY → Prop} (r : Nat) (hr : r < 7) (hS : L0 r = some T) (h40 : T.length ≤ 100) (hev : ∀ k, k < 7 → k ≠ 3 → ur_ev (ur_C T k) = true) (h : ur_W 256 L0 yc yn t7 t8)
    (k : ∀ c' n' s' e' t8, ur_W 256 L0 c' n' (ur_nm T) t8 → post (ur_y lim cnt c' n' s' e')) : wpY_normal post (ur_y lim cnt yc yn ys ye) (nI r) := by
  unfold wpY_normal
  refine yw_begin r 7 h (by omega) (by omega) (by omega) (by decide) hS ?_
  have q := ys_n15 (lim := lim) (cnt := cnt) (ys := ys) (ye := ye) r hr hS h40 hev h k
  cases au : ur_au T
  · rw [au] at q
    have hB : ur_B T 7 = none := by rw [ur_B7, if_pos au]
    rw [ur_E_n hB]
    exact br_t ur_m1lt q
  · rw [au] at q
    have hB : ur_B T 7 = some (ur_sb T + 2, ur_e T) := by rw [ur_B7, if_neg (by rw [au]; decide)]
    have b := ur_B_b hB
    rw [ur_E_0 hB]
    exact br_f (nI_pos (by omega)) q
end
end
section
/-! resolving: pure, and the component's -/
/-- one behind the last slash -/
def ur_ls (acc i : Nat) : List Int32 → Nat
  | [] => acc
  | c :: l => ur_ls (if c = 47 then i + 1 else acc) (i + 1) l
theorem ur_ls_le : ∀ (l : List Int32) (acc i : Nat), acc ≤ i → ur_ls acc i l ≤ i + l.length
  | [], acc, i, h => h
  | c :: l, acc, i, h => by
    rw [ur_ls, List.length_cons]
    split
    · have := ur_ls_le l (i + 1) (i + 1) (Nat.le_refl _); omega
    · have := ur_ls_le l acc (i + 1) (by omega); omega
/-- the folder of a path -/
def ur_fo (l : List Int32) : List Int32 := if l = [] then [47] else l.take (ur_ls 0 0 l)
def ur_btx (s o q R path : List Int32) : List Int32 :=
  ur_on (ur_B s 0).isSome (ur_C s 0 ++ [58]) ++ (ur_on (ur_au o) (47 :: 47 :: ur_C o 7) ++ (path ++ (ur_on (ur_B q 5).isSome (63 :: ur_C q 5) ++ ur_on (ur_B R 6).isSome (35 :: ur_C R 6))))
/-- R resolved against B -/
def ur_bd (B R : List Int32) : List Int32 :=
  if (ur_B R 0).isSome = true then ur_btx R R R R (ur_clean (ur_au R) (ur_C R 4))
  else if ur_au R = true then ur_btx B R R R (ur_clean (ur_au R) (ur_C R 4))
  else if ur_C R 4 = [] then ur_btx B B (if (ur_B R 5).isSome = true then R else B) R (ur_C B 4)
  else if ur_at (ur_C R 4) 0 = 47 then ur_btx B B R R (ur_clean (ur_au B) (ur_C R 4))
  else ur_btx B B R R (ur_clean (ur_au B) (ur_fo (ur_C B 4) ++ ur_C R 4))
theorem ur_l7c (T : List Int32) : (ur_C T 7).length + ur_sb T ≤ ur_e T := by
  cases au : ur_au T
  · rw [(ur_c7f au).2.2.2, ur_e_f au]; simp
  · have a := ur_e_lo2 au
    have hB : ur_B T 7 = some (ur_sb T + 2, ur_e T) := by rw [ur_B7, if_neg (by rw [au]; decide)]
    rw [ur_C_s hB, ur_ex_len (ur_e_le T)]; omega
theorem ur_sum5 (T : List Int32) : (ur_C T 0).length + (ur_C T 7).length + (ur_C T 4).length + (ur_C T 5).length + (ur_C T 6).length ≤ T.length := by
  have a0 := ur_l0 T
  have a4 := ur_l4 T
  have a5 := ur_l5 T
  have a6 := ur_l6 T
  have a7 := ur_l7c T
  have e1 := ur_e_hi T
  have e2 := ur_q_hi T
  have e3 := ur_f_hi T
  omega
theorem ur_fo_len (l : List Int32) : (ur_fo l).length ≤ l.length + 1 := by
  unfold ur_fo
  split
  · simp
  · rw [List.length_take]; omega
section
variable {bh lim cnt : Int32} {m l fa ta wa : Nat → Int32} {L0 : Nat → Option (List Int32)} {t7 t8 B R S O Q : List Int32}
/-- a region that may be read while 7 and 8 are written -/
def ur_src (L0 : Nat → Option (List Int32)) (fa ta : Nat → Int32) (s : Nat) (S : List Int32) : Prop := s < 11 ∧ s ≠ 7 ∧ s ≠ 8 ∧ L0 s = some S ∧ ur_BX s S fa ta ∧ S.length ≤ 40
theorem xw_after' {post : SX → Prop} (s k : Nat) {c : Int32} (h : ur_W 128 L0 m l t7 t8) (hs : ur_src L0 fa ta s S) (hk8 : k < 8) (hT : t7.length + 1 + (ur_C S k).length ≤ 128)
    (kk : ∀ m' l', ur_W 128 L0 m' l' (t7 ++ ur_on (ur_B S k).isSome (c :: ur_C S k)) t8 → post (ur_x bh lim cnt m' l' fa ta wa)) : wpX_printAfter post (ur_x bh lim cnt m l fa ta wa) (nI s) (nI k) c :=
  xw_after s k h hs.1 hk8 hs.2.1 hs.2.2.1 hs.2.2.2.1 hs.2.2.2.2.1 (by have := hs.2.2.2.2.2; omega) hT kk
theorem xs_b249 {post : SX → Prop} (r q : Nat) (hr : ur_src L0 fa ta r R) (hq : ur_src L0 fa ta q Q) (h : ur_W 128 L0 m l t7 t8) (hl : t7.length + t8.length + (1 + (ur_C Q 5).length) + (1 + (ur_C R 6).length) ≤ 128)
    (k : ∀ m' l', ur_W 128 L0 m' l' (t7 ++ (t8 ++ (ur_on (ur_B Q 5).isSome (63 :: ur_C Q 5) ++ ur_on (ur_B R 6).isSome (35 :: ur_C R 6)))) t8 → post (ur_x bh lim cnt m' l' fa ta wa)) :
    wX_buildResolved_249 post (nI r) (nI q) 128 6 7 8 9 10 bh lim cnt m l fa ta wa := by
  unfold wX_buildResolved_249
  refine xw_print h (by omega) (fun m1 l1 h1 => ?_)
  refine xw_after' q 5 h1 hq (by decide) (by rw [List.length_append]; omega) (fun m2 l2 h2 => ?_)
  have lq : (ur_on (ur_B Q 5).isSome (63 :: ur_C Q 5)).length ≤ 1 + (ur_C Q 5).length := by
    unfold ur_on; split <;> simp only [List.length_cons, List.length_nil] <;> omega
  refine xw_after' r 6 h2 hr (by decide) (by rw [List.length_append, List.length_append]; omega) (fun m3 l3 h3 => k m3 l3 ?_)
  rw [List.append_assoc, List.append_assoc] at h3
  exact h3
theorem xs_b226 {post : SX → Prop} (r o q : Nat) (hr : ur_src L0 fa ta r R) (ho : ur_src L0 fa ta o O) (hq : ur_src L0 fa ta q Q) (h : ur_W 128 L0 m l t7 t8) (hl : t7.length + (2 + (ur_C O 7).length) + t8.length + (1 + (ur_C Q 5).length) + (1 + (ur_C R 6).length) ≤ 128)
    (k : ∀ m' l', ur_W 128 L0 m' l' (t7 ++ (ur_on (ur_au O) (47 :: 47 :: ur_C O 7) ++ (t8 ++ (ur_on (ur_B Q 5).isSome (63 :: ur_C Q 5) ++ ur_on (ur_B R 6).isSome (35 :: ur_C R 6))))) t8 → post (ur_x bh lim cnt m' l' fa ta wa)) :
    wX_buildResolved_226 post (nI r) (nI o) (nI q) (ur_b (ur_au O)) 128 6 7 8 9 10 bh lim cnt m l fa ta wa := by
  unfold wX_buildResolved_226
  refine ur_br (fun z => ?_) (fun z => ?_)
  · rw [z, ur_on_f, List.nil_append] at k
    exact xs_b249 r q hr hq h (by omega) k
  · refine xw_add7 h (by omega) (fun m1 l1 h1 => ?_)
    refine xw_after' o 7 h1 ho (by decide) (by rw [List.length_append, List.length_singleton]; omega) (fun m2 l2 h2 => ?_)
    rw [ur_B7s, z, ur_on_t, List.append_assoc, List.singleton_append] at h2
    rw [z, ur_on_t] at k
    refine xs_b249 r q hr hq h2 (by simp only [List.length_append, List.length_cons]; omega) (fun m3 l3 h3 => k m3 l3 ?_)
    rw [List.append_assoc] at h3
    exact h3
theorem xs_b173 {post : SX → Prop} (r s o q : Nat) (hr : ur_src L0 fa ta r R) (hs : ur_src L0 fa ta s S) (ho : ur_src L0 fa ta o O) (hq : ur_src L0 fa ta q Q) (h : ur_W 128 L0 m l t7 t8) (hl : ((ur_C S 0).length + 1) + (2 + (ur_C O 7).length) + t8.length + (1 + (ur_C Q 5).length) + (1 + (ur_C R 6).length) ≤ 128)
    (k : ∀ m' l', ur_W 128 L0 m' l' (ur_btx S O Q R t8) t8 → post (ur_x bh lim cnt m' l' fa ta wa)) :
    wX_buildResolved_173 post (nI r) (nI s) (nI o) (nI q) (ur_b (ur_au O)) 128 6 7 8 9 10 bh lim cnt m l fa ta wa := by
  obtain ⟨s1, s2, s3, s4, s5, s6⟩ := hs
  have v0 : vp_in (nI (s * 8) + 0) 88 := ur_iv s 0 s1 (by decide)
  have i0 : (nI (s * 8) + 0).toNatClampNeg = s * 8 + 0 := ur_ic s 0 s1 (by decide)
  unfold wX_buildResolved_173
  refine nm_e ?_
  rw [ur_m8, i0]
  unfold ur_btx at k
  have h0 := ur_W_n7 h
  refine xa_has s 0 s1 (by decide) s5 (by omega) (ur_br (fun z => ?_) (fun z => ⟨v0, v0, ?_⟩))
  · rw [z, ur_on_f, List.nil_append] at k
    exact xs_b226 r o q hr ho hq h0 (by rw [List.length_nil]; omega) k
  · rw [z, ur_on_t] at k
    refine xw_rng7 s 0 h0 s1 s2 s3 s4 (by rw [List.length_nil]; omega) (s5 0 (by decide)).1 (s5 0 (by decide)).2 (fun m1 l1 h1 => ?_)
    rw [List.nil_append] at h1
    refine xw_add7 h1 (by omega) (fun m2 l2 h2 => ?_)
    exact xs_b226 r o q hr ho hq h2 (by rw [List.length_append, List.length_singleton]; omega) k
theorem xs_b111 {post : SX → Prop} (b r s o q : Nat) {x6 x7 : Int32} (hb : ur_src L0 fa ta b B) (hr : ur_src L0 fa ta r R) (hs : ur_src L0 fa ta s S) (ho : ur_src L0 fa ta o O) (hq : ur_src L0 fa ta q Q) (h : ur_W 128 L0 m l t7 t8) (hx6 : x6 = ur_fX r R 4) (hx7 : x7 = ur_tX r R 4) (h8 : t8.length ≤ 41)
    (k : ∀ m' l' t, ur_W 128 L0 m' l' (ur_btx S O Q R (ur_clean (ur_au O) (t8 ++ ur_C R 4))) t → post (ur_x bh lim cnt m' l' fa ta wa)) :
    (hl : ((ur_C S 0).length + 1) + (2 + (ur_C O 7).length) + (t8.length + (ur_C R 4).length + 2) + (1 + (ur_C Q 5).length) + (1 + (ur_C R 6).length) ≤ 128) →
    wX_buildResolved_111 post (nI b) (nI r) (nI s) (nI o) (nI q) x6 x7 0 128 6 7 8 9 10 bh lim cnt m l fa ta wa := by
  intro hl
  obtain ⟨r1, r2, r3, r4, r5, r6⟩ := hr
  have c4 := ur_clean_len (ur_au O) (t8 ++ ur_C R 4)
  rw [List.length_append] at c4
  have s5 := ur_sum5 R
  unfold wX_buildResolved_111
  refine xa_has o 7 ho.1 (by decide) ho.2.2.2.2.1 (by have := ho.2.2.2.2.2; omega) ?_
  rw [ur_B7s]
  refine br_t rfl (xw_rng8 r 4 h r1 r2 r3 r4 (by omega) hx6 hx7 (fun m1 l1 h1 => ?_))
  refine xw_clean h1 (by rw [List.length_append]; omega) (fun m2 l2 h2 => ?_)
  exact xs_b173 r s o q ⟨r1, r2, r3, r4, r5, r6⟩ hs ho hq h2 (by omega) (fun m' l' h' => k m' l' _ h')
theorem xs_b111k {post : SX → Prop} (b r s o q : Nat) {x6 x7 : Int32} (hb : ur_src L0 fa ta b B) (hr : ur_src L0 fa ta r R) (hs : ur_src L0 fa ta s S) (ho : ur_src L0 fa ta o O) (hq : ur_src L0 fa ta q Q) (h : ur_W 128 L0 m l t7 [])
    (k : ∀ m' l' t, ur_W 128 L0 m' l' (ur_btx S O Q R (ur_C B 4)) t → post (ur_x bh lim cnt m' l' fa ta wa)) :
    (hl : ((ur_C S 0).length + 1) + (2 + (ur_C O 7).length) + (ur_C B 4).length + (1 + (ur_C Q 5).length) + (1 + (ur_C R 6).length) ≤ 128) →
    wX_buildResolved_111 post (nI b) (nI r) (nI s) (nI o) (nI q) x6 x7 1 128 6 7 8 9 10 bh lim cnt m l fa ta wa := by
  intro hl
  obtain ⟨b1, b2, b3, b4, b5, b6⟩ := hb
  have v4 : vp_in (nI (b * 8) + 4) 88 := ur_iv b 4 b1 (by decide)
  have i4 : (nI (b * 8) + 4).toNatClampNeg = b * 8 + 4 := ur_ic b 4 b1 (by decide)
  have s5 := ur_sum5 B
  unfold wX_buildResolved_111
  rw [ur_m8 b, i4]
  refine xa_has o 7 ho.1 (by decide) ho.2.2.2.2.1 (by have := ho.2.2.2.2.2; omega) ?_
  rw [ur_B7s]
  refine br_f (by decide) ⟨v4, v4, xw_rng8 b 4 h b1 b2 b3 b4 (by rw [List.length_nil]; omega) (b5 4 (by decide)).1 (b5 4 (by decide)).2 (fun m1 l1 h1 => ?_)⟩
  rw [List.nil_append] at h1
  exact xs_b173 r s o q hr hs ho hq h1 (by omega) (fun m' l' h' => k m' l' _ h')
theorem xl_fo {post : SX → Prop} (b A : Nat) (hb : ur_src L0 fa ta b B) (h : ur_W 128 L0 m l t7 []) (hA : A = ur_e B)
    (k : ∀ m' l', ur_W 128 L0 m' l' t7 (ur_ex B A (A + ur_ls 0 0 (ur_ex B A (ur_q B)))) → post (ur_x bh lim cnt m' l' fa ta wa)) :
    ∀ (x : List Int32) (i acc : Nat), x = ur_ex B (A + i) (ur_q B) → A + i ≤ ur_q B → acc ≤ i → ur_ls acc i x = ur_ls 0 0 (ur_ex B A (ur_q B)) →
    wX_addFolder_44 post (nI (b * 128 + A)) (nI (b * 128 + ur_q B)) 128 6 7 8 9 10 bh lim cnt m l fa ta wa (x.length + 1) (nI (b * 128 + A + acc)) (nI (b * 128 + A + i))
  | [], i, acc, hx, hi, ha, e => by
    obtain ⟨b1, b2, b3, b4, b5, b6⟩ := hb
    have q := ur_q_le B
    have ei : A + i = ur_q B := by
      rcases Nat.lt_or_ge (A + i) (ur_q B) with z | z
      · rw [ur_ex_cons z q] at hx; cases hx
      · omega
    refine br_t (nI_le (by omega) (by omega)) ?_
    rw [ur_ls] at e
    rw [← e] at k
    rw [Nat.add_assoc]
    exact xw_rng8' b A (A + acc) h b1 b2 b3 b4 (by omega) (by omega) (by rw [List.length_nil]; omega) k
  | c :: x, i, acc, hx, hi, ha, e => by
    have b1 := hb.1
    have b6 := hb.2.2.2.2.2
    have q := ur_q_le B
    have hlt : A + i < ur_q B := by
      rcases Nat.lt_or_ge (A + i) (ur_q B) with z | z
      · exact z
      · rw [ur_ex_nil z] at hx; cases hx
    have hx' := hx
    rw [ur_ex_cons hlt q] at hx'
    have hc1 : c = ur_at B (A + i) := (List.cons.inj hx').1
    have hx1 : x = ur_ex B (A + (i + 1)) (ur_q B) := (List.cons.inj hx').2
    have em : m (b * 128 + A + i) = c := by
      obtain ⟨L, hM, h7, h8, hk⟩ := h
      obtain ⟨b1, b2, b3, b4, b5, b6⟩ := hb
      rw [Nat.add_assoc, hc1]
      exact ur_M_at hM b1 ((hk b b2 b3).trans b4) (by omega)
    refine br_f (nI_ge (by omega) (by omega)) ⟨vp_in_nI (by omega) (by decide), ?_⟩
    rw [nI_clamp (show b * 128 + A + i < 2 ^ 31 by omega), em]
    rw [ur_ls] at e
    by_cases z : c = 47
    · rw [if_pos z] at e
      exact br_t z (nm_r (nI_1 _) (nm_r (nI_1 _) (xl_fo b A hb h hA k x (i + 1) (i + 1) hx1 (by omega) (Nat.le_refl _) e)))
    · rw [if_neg z] at e
      exact br_f z (nm_r (nI_1 _) (xl_fo b A hb h hA k x (i + 1) acc hx1 (by omega) (by omega) e))
theorem xa_fo {post : SX → Prop} (b : Nat) (hb : ur_src L0 fa ta b B) (h : ur_W 128 L0 m l t7 [])
    (k : ∀ m' l', ur_W 128 L0 m' l' t7 (ur_fo (ur_C B 4)) → post (ur_x bh lim cnt m' l' fa ta wa)) : wpX_addFolder post (ur_x bh lim cnt m l fa ta wa) (nI b) := by
  have hb' := hb
  obtain ⟨b1, b2, b3, b4, b5, b6⟩ := hb
  have v4 : vp_in (nI (b * 8) + 4) 88 := ur_iv b 4 b1 (by decide)
  have i4 : (nI (b * 8) + 4).toNatClampNeg = b * 8 + 4 := ur_ic b 4 b1 (by decide)
  have q := ur_q_le B
  have qe := ur_e_hi B
  have hC : ur_C B 4 = ur_ex B (ur_e B) (ur_q B) := ur_C_s (ur_B4 B)
  unfold wpX_addFolder
  dsimp only
  rw [ur_m8, i4, (b5 4 (by decide)).1, (b5 4 (by decide)).2, ur_fX_s (ur_B4 B), ur_tX_s (ur_B4 B)]
  refine ⟨v4, nm_e ⟨v4, nm_e (pk_lt (b * 128 + ur_e B) (b * 128 + ur_q B) (fun z => ?_) (fun z => ?_))⟩⟩
  · have hne : ¬ ur_C B 4 = [] := by rw [hC, ur_ex_cons (by omega) q]; simp
    have hl := ur_ls_le (ur_C B 4) 0 0 (Nat.le_refl _)
    rw [hC, ur_ex_len q] at hl
    have ef : ur_fo (ur_C B 4) = ur_ex B (ur_e B) (ur_e B + ur_ls 0 0 (ur_ex B (ur_e B) (ur_q B))) := by
      unfold ur_fo
      rw [if_neg hne, hC]
      unfold ur_ex
      rw [List.take_take, Nat.add_sub_cancel_left, Nat.min_eq_left]
      unfold ur_ex at hl
      omega
    rw [ef] at k
    exact ⟨_, xl_fo b (ur_e B) hb' h rfl k _ 0 0 rfl (by omega) (Nat.le_refl _) rfl⟩
  · have he : ur_C B 4 = [] := by rw [hC, ur_ex_nil (by omega)]
    have ef : ur_fo (ur_C B 4) = [47] := by unfold ur_fo; rw [if_pos he]
    rw [ef] at k
    exact xw_add8 h (by decide) k
/-- buildResolved -/
theorem xa_bd {post : SX → Prop} (b r : Nat) (hb : ur_src L0 fa ta b B) (hr : ur_src L0 fa ta r R) (h : ur_W 128 L0 m l t7 t8)
    (k : ∀ m' l' t, ur_W 128 L0 m' l' (ur_bd B R) t → post (ur_x bh lim cnt m' l' fa ta wa)) : wpX_buildResolved post (ur_x bh lim cnt m l fa ta wa) (nI b) (nI r) := by
  have hr' := hr
  obtain ⟨r1, r2, r3, r4, r5, r6⟩ := hr
  have b6 := hb.2.2.2.2.2
  have sB := ur_sum5 B
  have sR := ur_sum5 R
  have v4 : vp_in (nI (r * 8) + 4) 88 := ur_iv r 4 r1 (by decide)
  have i4 : (nI (r * 8) + 4).toNatClampNeg = r * 8 + 4 := ur_ic r 4 r1 (by decide)
  have q := ur_q_le R
  have qe := ur_e_hi R
  have hC : ur_C R 4 = ur_ex R (ur_e R) (ur_q R) := ur_C_s (ur_B4 R)
  have fX : fa (r * 8 + 4) = ur_fX r R 4 := (r5 4 (by decide)).1
  have tX : ta (r * 8 + 4) = ur_tX r R 4 := (r5 4 (by decide)).2
  have fN : ur_fX r R 4 = nI (r * 128 + ur_e R) := ur_fX_s (ur_B4 R)
  have tN : ur_tX r R 4 = nI (r * 128 + ur_q R) := ur_tX_s (ur_B4 R)
  unfold wpX_buildResolved
  dsimp only
  rw [ur_m8 r, i4, fX, tX]
  refine ⟨v4, nm_e ⟨v4, nm_e (nm_e ?_)⟩⟩
  have h0 := ur_W_n8 h
  unfold ur_bd at k
  refine xa_has r 0 r1 (by decide) r5 (by omega) (ur_br (fun z0 => ?_) (fun z0 => ?_))
  · rw [if_neg (by rw [z0]; decide)] at k
    refine xa_has r 7 r1 (by decide) r5 (by omega) ?_
    rw [ur_B7s]
    refine ur_br (fun z7 => ?_) (fun z7 => ?_)
    · rw [if_neg (by rw [z7]; decide)] at k
      rw [fN, tN]
      refine pk_lt (r * 128 + ur_e R) (r * 128 + ur_q R) (fun y => ⟨vp_in_nI (by omega) (by decide), ?_⟩) (fun y => ?_)
      · have hne : ¬ ur_C R 4 = [] := by rw [hC, ur_ex_cons (by omega) q]; simp
        rw [if_neg hne] at k
        have a0 : ur_at (ur_C R 4) 0 = ur_at R (ur_e R) := by rw [hC, ur_ex_at (by omega)]; rfl
        have em : m (r * 128 + ur_e R) = ur_at R (ur_e R) := by
          obtain ⟨L, hM, h7, h8, hk⟩ := h
          exact ur_M_at hM r1 ((hk r r2 r3).trans r4) (by omega)
        rw [nI_clamp (show r * 128 + ur_e R < 2 ^ 31 by omega), em]
        by_cases c47 : ur_at R (ur_e R) = 47
        · rw [if_pos (a0.trans c47)] at k
          refine br_t c47 ?_
          exact xs_b111 b r b b r hb hr' hb hb hr' h0 fN.symm tN.symm (by decide) k (by simp only [List.length_nil]; omega)
        · rw [if_neg (fun w => c47 (a0.symm.trans w))] at k
          refine br_f c47 (xa_fo b hb h0 (fun m1 l1 h1 => ?_))
          have fl := ur_fo_len (ur_C B 4)
          exact xs_b111 b r b b r hb hr' hb hb hr' h1 fN.symm tN.symm (by omega) k (by omega)
      · have he : ur_C R 4 = [] := by rw [hC, ur_ex_nil (by omega)]
        rw [if_pos he] at k
        refine xa_has r 5 r1 (by decide) r5 (by omega) (ur_br (fun z5 => ?_) (fun z5 => ?_))
        · rw [if_neg (by rw [z5]; decide)] at k
          exact xs_b111k b r b b b hb hr' hb hb hb h0 k (by omega)
        · rw [if_pos z5] at k
          exact xs_b111k b r b b r hb hr' hb hb hr' h0 k (by omega)
    · rw [if_pos z7] at k
      exact xs_b111 b r b r r hb hr' hb hr' hr' h0 rfl rfl (by decide) k (by simp only [List.length_nil]; omega)
  · rw [if_pos z0] at k
    exact xs_b111 b r r r r hb hr' hr' hr' hr' h0 rfl rfl (by decide) k (by simp only [List.length_nil]; omega)
end
end
section
/-! the reference's build -/
def ur_srY (L0 : Nat → Option (List Int32)) (s : Nat) (S : List Int32) : Prop := s < 11 ∧ s ≠ 7 ∧ s ≠ 8 ∧ L0 s = some S ∧ S.length ≤ 40
section
variable {lim cnt : Int32} {yc yn ys ye : Nat → Int32} {L0 : Nat → Option (List Int32)} {t7 t8 B R S O Q : List Int32}
theorem ys_b332 {post : SY → Prop} (r q : Nat) (hr : ur_srY L0 r R) (hq : ur_srY L0 q Q) (h : ur_W 256 L0 yc yn t7 t8) (hl : t7.length ≤ 174)
    (k : ∀ c' n', ur_W 256 L0 c' n' (t7 ++ (ur_on (ur_B Q 5).isSome (63 :: ur_C Q 5) ++ ur_on (ur_B R 6).isSome (35 :: ur_C R 6))) t8 → post (ur_y lim cnt c' n' ys ye)) :
    wY_build_332 post (nI r) (nI q) lim cnt yc yn ys ye := by
  obtain ⟨r1, r2, r3, r4, r5⟩ := hr
  obtain ⟨q1, q2, q3, q4, q5⟩ := hq
  have sR := ur_sum5 R
  have sQ := ur_sum5 Q
  have o5 := ur_on_len (ur_B Q 5).isSome 63
  have o6 := ur_on_len (ur_B R 6).isSome 35
  unfold wY_build_332
  refine yw_mark q 5 h q1 q2 q3 (by decide) q4 (by omega) (fun c1 n1 h1 => ?_)
  refine yw_raw q 5 h1 q1 q2 q3 (by decide) q4 (by simp only [List.length_append]; omega) (fun c2 n2 h2 => ?_)
  refine yw_mark r 6 h2 r1 r2 r3 (by decide) r4 (by simp only [List.length_append]; omega) (fun c3 n3 h3 => ?_)
  refine yw_raw r 6 h3 r1 r2 r3 (by decide) r4 (by simp only [List.length_append]; omega) (fun c4 n4 h4 => k c4 n4 ?_)
  rw [← ur_onr, ← ur_onr]
  simp only [List.append_assoc] at h4 ⊢
  exact h4
theorem ys_b226 {post : SY → Prop} {au : Bool} (r q : Nat) (hr : ur_srY L0 r R) (hq : ur_srY L0 q Q) (h : ur_W 256 L0 yc yn t7 t8) (hl : t7.length ≤ 120)
    (k : ∀ c' n' s' e' t, ur_W 256 L0 c' n' (t7 ++ (ur_clean au (ur_C R 4) ++ (ur_on (ur_B Q 5).isSome (63 :: ur_C Q 5) ++ ur_on (ur_B R 6).isSome (35 :: ur_C R 6)))) t → post (ur_y lim cnt c' n' s' e')) :
    wY_build_226 post (nI r) (nI q) (ur_b au) (nI (ur_e R)) (nI (ur_q R)) lim cnt yc yn ys ye := by
  have hr' := hr
  obtain ⟨r1, r2, r3, r4, r5⟩ := hr
  have e1 := ur_e_hi R
  have e2 := ur_q_le R
  have hC : ur_C R 4 = ur_ex R (ur_e R) (ur_q R) := ur_C_s (ur_B4 R)
  have cl := ur_clean_len au (ur_C R 4)
  have l4 := ur_l4 R
  unfold wY_build_226
  refine yw_cleanr7 r (ur_e R) (ur_q R) h r1 r2 r3 r4 e1 e2 (by omega) (by omega) (fun c1 n1 s1 e1 h1 => ?_)
  rw [← hC] at h1
  refine ys_b332 r q hr' hq h1 (by rw [List.length_append]; omega) (fun c2 n2 h2 => k c2 n2 s1 e1 t8 ?_)
  rw [List.append_assoc] at h2
  exact h2
theorem ys_b303 {post : SY → Prop} {au : Bool} (r q : Nat) (hr : ur_srY L0 r R) (hq : ur_srY L0 q Q) (h : ur_W 256 L0 yc yn t7 t8) (hl : t7.length ≤ 90) (hl8 : t8.length ≤ 41)
    (k : ∀ c' n' s' e' t, ur_W 256 L0 c' n' (t7 ++ (ur_clean au (t8 ++ ur_C R 4) ++ (ur_on (ur_B Q 5).isSome (63 :: ur_C Q 5) ++ ur_on (ur_B R 6).isSome (35 :: ur_C R 6)))) t → post (ur_y lim cnt c' n' s' e')) :
    wY_build_303 post (nI r) (nI q) (ur_b au) (nI (ur_e R)) (nI (ur_q R)) lim cnt yc yn ys ye := by
  have hr' := hr
  obtain ⟨r1, r2, r3, r4, r5⟩ := hr
  have e1 := ur_e_hi R
  have e2 := ur_q_le R
  have hC : ur_C R 4 = ur_ex R (ur_e R) (ur_q R) := ur_C_s (ur_B4 R)
  have cl := ur_clean_len au (t8 ++ ur_C R 4)
  have l4 := ur_l4 R
  rw [List.length_append] at cl
  unfold wY_build_303
  refine yw_app8 r (ur_e R) (ur_q R) h r1 r2 r3 r4 (by omega) e2 (by omega) (fun c1 n1 h1 => ?_)
  rw [← hC] at h1
  refine yw_clean87 h1 (by rw [List.length_append]; omega) (by rw [List.length_append]; omega) (fun c2 n2 s2 e2 h2 => ?_)
  refine ys_b332 r q hr' hq h2 (by rw [List.length_append]; omega) (fun c3 n3 h3 => k c3 n3 s2 e2 (t8 ++ ur_C R 4) ?_)
  rw [List.append_assoc] at h3
  exact h3
theorem yl_b246 {post : SY → Prop} {au : Bool} (b r q : Nat) (hb : ur_srY L0 b B) (hr : ur_srY L0 r R) (hq : ur_srY L0 q Q) (h : ur_W 256 L0 yc yn t7 []) (hl : t7.length ≤ 90)
    (k : ∀ c' n' s' e' t, ur_W 256 L0 c' n' (t7 ++ (ur_clean au (ur_fo (ur_C B 4) ++ ur_C R 4) ++ (ur_on (ur_B Q 5).isSome (63 :: ur_C Q 5) ++ ur_on (ur_B R 6).isSome (35 :: ur_C R 6)))) t → post (ur_y lim cnt c' n' s' e')) :
    ∀ (x : List Int32) (i acc : Nat), x = ur_ex B (ur_e B + i) (ur_q B) → ur_e B + i ≤ ur_q B → acc ≤ i → ur_ls acc i x = ur_ls 0 0 (ur_C B 4) →
    wY_build_246 post (nI b) (nI r) (nI q) (ur_b au) (nI (ur_e R)) (nI (ur_q R)) (nI (ur_e B)) (nI (ur_q B)) lim cnt yc yn ys ye (x.length + 1) (nI (ur_e B + acc)) (nI (ur_e B + i))
  | [], i, acc, hx, hi, ha, e => by
    obtain ⟨b1, b2, b3, b4, b5⟩ := hb
    have q2 := ur_q_le B
    have hC : ur_C B 4 = ur_ex B (ur_e B) (ur_q B) := ur_C_s (ur_B4 B)
    have ei : ur_e B + i = ur_q B := by
      rcases Nat.lt_or_ge (ur_e B + i) (ur_q B) with z | z
      · rw [ur_ex_cons z q2] at hx; cases hx
      · omega
    rw [ur_ls] at e
    have fl := ur_fo_len (ur_C B 4)
    have l4 := ur_l4 B
    refine br_t (nI_le (by omega) (by omega)) ?_
    refine yw_app8 b (ur_e B) (ur_e B + acc) h b1 b2 b3 b4 (by omega) (by omega) (by rw [List.length_nil]; omega) (fun c1 n1 h1 => ?_)
    rw [List.nil_append] at h1
    refine pk_eq (ur_e B) (ur_q B) (fun z => ?_) (fun z => ?_)
    · have he : ur_C B 4 = [] := by rw [hC, ur_ex_nil (by omega)]
      have ef : ur_fo (ur_C B 4) = [47] := by unfold ur_fo; rw [if_pos he]
      have a0 : acc = 0 := by omega
      rw [ur_ex_nil (by omega)] at h1
      rw [ef] at k
      exact yw_add8 h1 (by decide) (fun c2 n2 h2 => ys_b303 r q hr hq h2 hl (by decide) k)
    · have hne : ¬ ur_C B 4 = [] := by rw [hC, ur_ex_cons (by omega) q2]; simp
      have ef : ur_fo (ur_C B 4) = ur_ex B (ur_e B) (ur_e B + acc) := by
        unfold ur_fo
        rw [if_neg hne, ← e, hC]
        unfold ur_ex
        rw [List.take_take, Nat.add_sub_cancel_left, Nat.min_eq_left]
        omega
      rw [← ef] at h1
      exact ys_b303 r q hr hq h1 hl (by omega) k
  | c :: x, i, acc, hx, hi, ha, e => by
    have hb' := hb
    obtain ⟨b1, b2, b3, b4, b5⟩ := hb
    have q2 := ur_q_le B
    have hlt : ur_e B + i < ur_q B := by
      rcases Nat.lt_or_ge (ur_e B + i) (ur_q B) with z | z
      · exact z
      · rw [ur_ex_nil z] at hx; cases hx
    have hx' := hx
    rw [ur_ex_cons hlt q2] at hx'
    have hc1 : c = ur_at B (ur_e B + i) := (List.cons.inj hx').1
    have hx1 : x = ur_ex B (ur_e B + (i + 1)) (ur_q B) := (List.cons.inj hx').2
    refine br_f (nI_ge (by omega) (by omega)) (yw_at b (ur_e B + i) h b1 b2 b3 b4 (by omega) ?_)
    rw [← hc1]
    rw [ur_ls] at e
    by_cases z : c = 47
    · rw [if_pos z] at e
      exact br_t z (nm_r (nI_1 _) (nm_r (nI_1 _) (yl_b246 b r q hb' hr hq h hl k x (i + 1) (i + 1) hx1 (by omega) (Nat.le_refl _) e)))
    · rw [if_neg z] at e
      exact br_f z (nm_r (nI_1 _) (yl_b246 b r q hb' hr hq h hl k x (i + 1) acc hx1 (by omega) (by omega) e))
/-- what stands in front of the path -/
theorem ys_pre {post : SY → Prop} (s o : Nat) (hs : ur_srY L0 s S) (ho : ur_srY L0 o O) (h : ur_W 256 L0 yc yn [] [])
    (k : ∀ c' n' t, t = ur_on (ur_B S 0).isSome (ur_C S 0 ++ [58]) ++ ur_on (ur_au O) (47 :: 47 :: ur_C O 7) → t.length ≤ 83 → ur_W 256 L0 c' n' t [] → post (ur_y lim cnt c' n' ys ye)) :
    wpY_raw (fun u => wpY_mark (fun u => wpY_mark (fun u => wpY_mark (fun u => wpY_raw (fun u => post u) u (nI o) 7) u (nI o) 7 47) u (nI o) 7 47) u (nI s) 0 58) (ur_y lim cnt yc yn ys ye) (nI s) 0 := by
  obtain ⟨s1, s2, s3, s4, s5⟩ := hs
  obtain ⟨o1, o2, o3, o4, o5⟩ := ho
  have sS := ur_sum5 S
  have sO := ur_sum5 O
  have a0 := ur_on_len (ur_B S 0).isSome 58
  have a7 := ur_on_len (ur_B O 7).isSome 47
  refine yw_raw s 0 h s1 s2 s3 (by decide) s4 (by rw [List.length_nil]; omega) (fun c1 n1 h1 => ?_)
  rw [List.nil_append] at h1
  refine yw_mark s 0 h1 s1 s2 s3 (by decide) s4 (by omega) (fun c2 n2 h2 => ?_)
  refine yw_mark o 7 h2 o1 o2 o3 (by decide) o4 (by simp only [List.length_append]; omega) (fun c3 n3 h3 => ?_)
  refine yw_mark o 7 h3 o1 o2 o3 (by decide) o4 (by simp only [List.length_append]; omega) (fun c4 n4 h4 => ?_)
  refine yw_raw o 7 h4 o1 o2 o3 (by decide) o4 (by simp only [List.length_append]; omega) (fun c5 n5 h5 => ?_)
  refine k c5 n5 _ ?_ ?_ h5
  · rw [← ur_ons, ur_B7s]
    cases au : ur_au O
    · rw [(ur_c7f au).2.2.2]
      simp only [ur_on_f, List.append_nil]
    · simp only [ur_on_t, List.append_assoc, List.cons_append, List.nil_append]
  · simp only [List.length_append]; omega
theorem ur_4ab {R : List Int32} (h40 : R.length ≤ 256) {A C : Prop} (f : ur_C R 4 = [] → A) (g : ¬ ur_C R 4 = [] → C) : (nI (ur_e R) = nI (ur_q R) → A) ∧ (¬ nI (ur_e R) = nI (ur_q R) → C) := by
  have e1 := ur_e_hi R
  have e2 := ur_q_le R
  have hC : ur_C R 4 = ur_ex R (ur_e R) (ur_q R) := ur_C_s (ur_B4 R)
  refine pk_eq (ur_e R) (ur_q R) (fun z => f ?_) (fun z => g ?_)
  · rw [hC, ur_ex_nil (by omega)]
  · rw [hC, ur_ex_cons (by omega) e2]; simp
theorem ys_b78 {post : SY → Prop} (b r s o : Nat) {mine : Bool} (hb : ur_srY L0 b B) (hr : ur_srY L0 r R) (hs : ur_srY L0 s S) (ho : ur_srY L0 o O) (h : ur_W 256 L0 yc yn t7 t8)
    (k : ∀ c' n' s' e' t, ur_W 256 L0 c' n' (if mine = true then ur_btx S O R R (ur_clean (ur_au O) (ur_C R 4)) else if ur_C R 4 = [] then ur_btx S O (if (ur_B R 5).isSome = true then R else B) R (ur_C B 4) else if ur_at (ur_C R 4) 0 = 47 then ur_btx S O R R (ur_clean (ur_au O) (ur_C R 4)) else ur_btx S O R R (ur_clean (ur_au O) (ur_fo (ur_C B 4) ++ ur_C R 4))) t → post (ur_y lim cnt c' n' s' e')) :
    wY_build_78 post (nI b) (nI r) (ur_b mine) (nI s) (nI o) (nI r) (ur_b (ur_au O)) lim cnt yc yn ys ye := by
  have hb' := hb
  have hr' := hr
  obtain ⟨r1, r2, r3, r4, r5⟩ := hr
  obtain ⟨b1, b2, b3, b4, b5⟩ := hb
  have e1 := ur_e_hi R
  have e2 := ur_q_le R
  have hC : ur_C R 4 = ur_ex R (ur_e R) (ur_q R) := ur_C_s (ur_B4 R)
  have sB := ur_sum5 B
  unfold wY_build_78
  refine yw_begin r 4 h r1 r2 r3 (by decide) r4 (yw_end r 4 h r1 r2 r3 (by decide) r4 (yw_begin b 4 h b1 b2 b3 (by decide) b4 (yw_end b 4 h b1 b2 b3 (by decide) b4 ?_)))
  rw [ur_E_0 (ur_B4 R), ur_E_1 (ur_B4 R), ur_E_0 (ur_B4 B), ur_E_1 (ur_B4 B)]
  refine nm_e (nm_e ?_)
  refine ys_pre s o hs ho (ur_W_n8 (ur_W_n7 h)) (fun c1 n1 t ht htl h1 => ?_)
  have go226 : (∀ c' n' s' e' t, ur_W 256 L0 c' n' (ur_btx S O R R (ur_clean (ur_au O) (ur_C R 4))) t → post (ur_y lim cnt c' n' s' e')) → wY_build_226 post (nI r) (nI r) (ur_b (ur_au O)) (nI (ur_e R)) (nI (ur_q R)) lim cnt c1 n1 ys ye := by
    intro k
    refine ys_b226 r r hr' hr' h1 (by omega) (fun c2 n2 s2 e2 t2 h2 => k c2 n2 s2 e2 t2 ?_)
    unfold ur_btx
    rw [ht, List.append_assoc] at h2
    exact h2
  refine ur_br (fun zm => ?_) (fun zm => ?_)
  · rw [if_neg (by rw [zm]; decide)] at k
    refine ur_4ab (by omega) (fun he => ?_) (fun hne => ?_)
    · rw [if_pos he] at k
      refine yw_raw b 4 h1 b1 b2 b3 (by decide) b4 (by omega) (fun c2 n2 h2 => ?_)
      refine yw_begin r 5 h2 r1 r2 r3 (by decide) r4 ?_
      cases hB5 : ur_B R 5 with
      | none =>
        rw [hB5, if_neg (by decide)] at k
        rw [ur_E_n hB5]
        refine br_f ur_m1le (ys_b332 r b hr' hb' h2 (by rw [List.length_append]; omega) (fun c3 n3 h3 => k c3 n3 ys ye [] ?_))
        unfold ur_btx
        rw [ht, List.append_assoc, List.append_assoc] at h3
        exact h3
      | some p =>
        have q := ur_B_b (a := p.1) (b := p.2) hB5
        rw [hB5, if_pos (show (some p).isSome = true from rfl)] at k
        rw [ur_E_0 (a := p.1) (b := p.2) hB5]
        refine br_t (nI_pos' (by omega)) (ys_b332 r r hr' hr' h2 (by rw [List.length_append]; omega) (fun c3 n3 h3 => k c3 n3 ys ye [] ?_))
        unfold ur_btx
        rw [ht, List.append_assoc, List.append_assoc] at h3
        exact h3
    · rw [if_neg hne] at k
      unfold wY_build_209
      rw [zm]
      have hlt : ur_e R < ur_q R := by
        rcases Nat.lt_or_ge (ur_e R) (ur_q R) with z | z
        · exact z
        · exact absurd (by rw [hC, ur_ex_nil z]) hne
      have a0 : ur_at (ur_C R 4) 0 = ur_at R (ur_e R) := by rw [hC, ur_ex_at (by omega)]; rfl
      refine br_t rfl (yw_at r (ur_e R) h1 r1 r2 r3 r4 (by omega) ?_)
      by_cases c47 : ur_at R (ur_e R) = 47
      · rw [if_pos (a0.trans c47)] at k
        exact br_t c47 (go226 k)
      · rw [if_neg (fun w => c47 (a0.symm.trans w))] at k
        have eB := ur_e_hi B
        have hCB : ur_C B 4 = ur_ex B (ur_e B) (ur_q B) := ur_C_s (ur_B4 B)
        refine br_f c47 ⟨_, yl_b246 b r r hb' hr' hr' h1 (by omega) (fun c2 n2 s2 e2 t2 h2 => k c2 n2 s2 e2 t2 ?_) (ur_ex B (ur_e B + 0) (ur_q B)) 0 0 rfl (by omega) (Nat.le_refl _) (by rw [hCB]; rfl)⟩
        unfold ur_btx
        rw [ht, List.append_assoc] at h2
        exact h2
  · rw [if_pos zm] at k
    unfold wY_build_209
    rw [zm]
    exact br_f (by decide) (go226 k)
/-- build -/
theorem ya_bd {post : SY → Prop} (b r : Nat) (hb : ur_srY L0 b B) (hr : ur_srY L0 r R) (h : ur_W 256 L0 yc yn t7 t8)
    (k : ∀ c' n' s' e' t, ur_W 256 L0 c' n' (ur_bd B R) t → post (ur_y lim cnt c' n' s' e')) : wpY_build post (ur_y lim cnt yc yn ys ye) (nI b) (nI r) := by
  have hb' := hb
  have hr' := hr
  obtain ⟨r1, r2, r3, r4, r5⟩ := hr
  obtain ⟨b1, b2, b3, b4, b5⟩ := hb
  have h57 : ∀ (s o : Nat) (S O : List Int32) (mine : Bool), ur_srY L0 s S → ur_srY L0 o O → wY_build_78 post (nI b) (nI r) (ur_b mine) (nI s) (nI o) (nI r) (ur_b (ur_au O)) lim cnt yc yn ys ye → wY_build_57 post (nI b) (nI r) (ur_b mine) (nI s) (nI o) lim cnt yc yn ys ye := by
    intro s o S O mine hs ho q
    obtain ⟨o1, o2, o3, o4, o5⟩ := ho
    unfold wY_build_57
    refine yw_begin o 7 h o1 o2 o3 (by decide) o4 ?_
    cases au : ur_au O
    · rw [au] at q
      have hB : ur_B O 7 = none := by rw [ur_B7, if_pos au]
      rw [ur_E_n hB]
      exact br_t ur_m1lt q
    · rw [au] at q
      have hB : ur_B O 7 = some (ur_sb O + 2, ur_e O) := by rw [ur_B7, if_neg (by rw [au]; decide)]
      have b := ur_B_b hB
      rw [ur_E_0 hB]
      exact br_f (nI_pos (by omega)) q
  unfold wpY_build
  refine yw_begin r 0 h r1 r2 r3 (by decide) r4 ?_
  unfold ur_bd at k
  cases hB0 : ur_B R 0 with
  | none =>
    rw [hB0, if_neg (by decide)] at k
    rw [ur_E_n hB0]
    refine br_t ur_m1lt ?_
    unfold wY_build_14
    refine br_t rfl (yw_begin r 7 h r1 r2 r3 (by decide) r4 ?_)
    cases au : ur_au R
    · rw [if_neg (by rw [au]; decide)] at k
      have hB : ur_B R 7 = none := by rw [ur_B7, if_pos au]
      rw [ur_E_n hB]
      refine br_t ur_m1lt ?_
      unfold wY_build_34
      refine br_t rfl ?_
      unfold wY_build_45
      refine br_t rfl ?_
      refine h57 b b B B false hb' hb' ?_
      exact ys_b78 b r b b hb' hr' hb' hb' h (by rw [if_neg (by decide)]; exact k)
    · rw [if_pos au] at k
      have hB : ur_B R 7 = some (ur_sb R + 2, ur_e R) := by rw [ur_B7, if_neg (by rw [au]; decide)]
      have b7 := ur_B_b hB
      rw [ur_E_0 hB]
      refine br_f (nI_pos (by omega)) ?_
      unfold wY_build_29 wY_build_34
      refine br_t rfl ?_
      unfold wY_build_45
      refine br_f (by decide) ?_
      refine h57 b r B R true hb' hr' ?_
      exact ys_b78 b r b r hb' hr' hb' hr' h (by rw [if_pos rfl]; exact k)
  | some p =>
    have q := ur_B_b (a := p.1) (b := p.2) hB0
    rw [hB0, if_pos (show (some p).isSome = true from rfl)] at k
    rw [ur_E_0 (a := p.1) (b := p.2) hB0]
    refine br_f (nI_pos (by omega)) ?_
    unfold wY_build_14
    refine br_f (by decide) ?_
    unfold wY_build_29 wY_build_34
    refine br_f (by decide) ?_
    unfold wY_build_45
    refine br_f (by decide) ?_
    refine h57 r r R R true hr' hr' ?_
    exact ys_b78 b r r r hb' hr' hr' hr' h (by rw [if_pos rfl]; exact k)
end
end
section
/-! comparing, traits -/
theorem ur_cons_dec (c d : Int32) (x y : List Int32) : decide (c :: x = d :: y) = (decide (c = d) && decide (x = y)) := by
  by_cases h : c = d
  · by_cases h2 : x = y
    · rw [h, h2]; simp
    · rw [decide_eq_false (fun z => h2 (List.cons.inj z).2), decide_eq_false h2, Bool.and_false]
  · rw [decide_eq_false (fun z => h (List.cons.inj z).1), decide_eq_false h, Bool.false_and]
section
variable {bh lim cnt : Int32} {m l fa ta wa : Nat → Int32} {T : List Int32}
theorem xl_same {post : Int32 → Prop} (a b n : Nat) (hn : n ≤ 1408) : ∀ (x y : List Int32) (i : Nat), x.length = y.length → ur_G 1408 m (a + i) x → ur_G 1408 m (b + i) y → i + x.length = n → post (ur_b (decide (x = y))) →
    wX_sameRange_19 post (nI a) (nI b) (nI n) 128 6 7 8 9 10 bh lim cnt m l fa ta wa (x.length + 1) (nI i)
  | [], [], i, _, _, _, hi, k => br_t (nI_le (by simp at hi; omega) (by simp at hi; omega)) k
  | [], _ :: _, i, h, _, _, _, _ => absurd h (by simp)
  | _ :: _, [], i, h, _, _, _, _ => absurd h (by simp)
  | c :: x, d :: y, i, h, hG, hH, hi, k => by
    obtain ⟨g1, g2, g3⟩ := ur_G_cons hG
    obtain ⟨h1, h2, h3⟩ := ur_G_cons hH
    simp only [List.length_cons] at h hi
    rw [wX_sameRange_19]
    dsimp only
    rw [nI_add, nI_add, nI_clamp (show a + i < 2 ^ 31 by omega), nI_clamp (show b + i < 2 ^ 31 by omega), g2, h2]
    rw [ur_cons_dec] at k
    refine br_f (nI_ge (by omega) (by omega)) ⟨vp_in_nI g1 (by decide), vp_in_nI h1 (by decide), br_c (fun z => nm_r (nI_1 _) ?_) (fun z => ?_)⟩
    · rw [decide_eq_true z, Bool.true_and] at k
      exact xl_same a b n hn x y (i + 1) (by omega) g3 h3 (by omega) k
    · rw [decide_eq_false z] at k; exact k
theorem xa_same {post : Int32 → Prop} {p0 p1 p2 p3 : Int32} (a b : Nat) (w v : List Int32) (hG : ur_G 1408 m a w) (hH : ur_G 1408 m b v) (h0 : p0 = nI a) (h1 : p1 = nI (a + w.length)) (h2 : p2 = nI b) (h3 : p3 = nI (b + v.length))
    (k : post (ur_b (decide (w = v)))) : wpX_sameRange post (ur_x bh lim cnt m l fa ta wa) p0 p1 p2 p3 := by
  subst h0 h1 h2 h3
  have g1 := hG.1
  have g2 := hH.1
  unfold wpX_sameRange
  refine nm_r (e' := nI w.length) (by rw [pk_sub (by omega)]; exact congrArg nI (by omega)) ?_
  have e2 : nI (b + v.length) - nI b = nI v.length := by rw [pk_sub (by omega)]; exact congrArg nI (by omega)
  rw [e2]
  refine pk_eq w.length v.length (fun z => ?_) (fun z => ?_)
  · exact ⟨_, xl_same a b w.length (by omega) w v 0 z hG hH (by omega) k⟩
  · rw [decide_eq_false (fun y => z (congrArg List.length y))] at k; exact k
end
section
variable {lim cnt : Int32} {yc yn ys ye : Nat → Int32} {L : Nat → Option (List Int32)} {T S : List Int32}
theorem yl_same {post : Int32 → Prop} (r s a b : Nat) (h : ur_M 256 L yc yn) (hr : r < 11) (hs : s < 11) (hT : L r = some T) (hS : L s = some S) (n : Nat) (ha : a + n ≤ 1000) (hb : b + n ≤ 1000) : ∀ (x y : List Int32) (i : Nat), x.length = y.length → ur_G T.length (ur_at T) (a + i) x → ur_G S.length (ur_at S) (b + i) y → i + x.length = n → post (ur_b (decide (x = y))) →
    wY_same_3 post (nI r) (nI a) (nI (a + n)) (nI s) (nI b) (nI (b + n)) lim cnt yc yn ys ye (x.length + 1) (nI i)
  | [], [], i, _, _, _, hi, k => by
    have e1 : nI (a + n) - nI a = nI n := by rw [pk_sub (by omega)]; exact congrArg nI (by omega)
    have e2 : nI (b + n) - nI b = nI n := by rw [pk_sub (by omega)]; exact congrArg nI (by omega)
    rw [wY_same_3]
    dsimp only
    rw [e1, e2]
    exact br_t (nI_le (by simp at hi; omega) (by simp at hi; omega)) (br_t rfl k)
  | [], _ :: _, i, h, _, _, _, _ => absurd h (by simp)
  | _ :: _, [], i, h, _, _, _, _ => absurd h (by simp)
  | c :: x, d :: y, i, hl, hG, hH, hi, k => by
    obtain ⟨g1, g2, g3⟩ := ur_G_cons hG
    obtain ⟨h1, h2, h3⟩ := ur_G_cons hH
    have e1 : nI (a + n) - nI a = nI n := by rw [pk_sub (by omega)]; exact congrArg nI (by omega)
    simp only [List.length_cons] at hl hi
    rw [wY_same_3]
    dsimp only
    rw [nI_add, nI_add]
    rw [ur_cons_dec] at k
    refine br_f (by rw [e1]; exact nI_ge (by omega) (by omega)) (ya_at r (a + i) h hr hT (by omega) (ya_at s (b + i) h hs hS (by omega) ?_))
    rw [g2, h2]
    refine br_c (fun z => nm_r (nI_1 _) ?_) (fun z => ?_)
    · rw [decide_eq_true z, Bool.true_and] at k
      exact yl_same r s a b h hr hs hT hS n ha hb x y (i + 1) (by omega) g3 h3 (by omega) k
    · rw [decide_eq_false z] at k; exact k
theorem yl_diff {post : Int32 → Prop} (r s a b : Nat) (h : ur_M 256 L yc yn) (hr : r < 11) (hs : s < 11) (hT : L r = some T) (hS : L s = some S) (n n2 : Nat) (hn : n ≠ n2) (ha : a + n ≤ 1000) (hb : b + n ≤ 1000) (hb2 : b + n2 ≤ 1000) (k : post 0) : ∀ (d i : Nat), i + d = n →
    wY_same_3 post (nI r) (nI a) (nI (a + n)) (nI s) (nI b) (nI (b + n2)) lim cnt yc yn ys ye (d + 1) (nI i) := by
  have e1 : nI (a + n) - nI a = nI n := by rw [pk_sub (by omega)]; exact congrArg nI (by omega)
  have e2 : nI (b + n2) - nI b = nI n2 := by rw [pk_sub (by omega)]; exact congrArg nI (by omega)
  intro d
  induction d with
  | zero =>
    intro i hi
    rw [wY_same_3]
    dsimp only
    rw [e1, e2]
    exact br_t (nI_le (by omega) (by omega)) (pk_eq n n2 (fun z => absurd z hn) (fun _ => k))
  | succ d ih =>
    intro i hi
    rw [wY_same_3]
    dsimp only
    rw [nI_add, nI_add]
    refine br_f (by rw [e1]; exact nI_ge (by omega) (by omega)) (ya_at r (a + i) h hr hT (by omega) (ya_at s (b + i) h hs hS (by omega) ?_))
    exact br_c (fun z => nm_r (nI_1 _) (ih (i + 1) (by omega))) (fun z => k)
theorem ya_same {post : Int32 → Prop} {p1 p2 p4 p5 : Int32} (r s a b : Nat) (w v : List Int32) (h : ur_M 256 L yc yn) (hr : r < 11) (hs : s < 11) (hT : L r = some T) (hS : L s = some S) (hG : ur_G T.length (ur_at T) a w) (hH : ur_G S.length (ur_at S) b v) (h1 : p1 = nI a) (h2 : p2 = nI (a + w.length)) (h4 : p4 = nI b) (h5 : p5 = nI (b + v.length))
    (k : post (ur_b (decide (w = v)))) : wpY_same post (ur_y lim cnt yc yn ys ye) (nI r) p1 p2 (nI s) p4 p5 := by
  subst h1 h2 h4 h5
  have g1 := hG.1
  have g2 := hH.1
  have t1 := ur_M_le h hr hT
  have t2 := ur_M_le h hs hS
  by_cases z : w.length = v.length
  · have q := yl_same (post := post) (lim := lim) (cnt := cnt) (ys := ys) (ye := ye) r s a b h hr hs hT hS w.length (by omega) (by omega) w v 0 z hG hH (by omega) k
    rw [z] at q
    rw [z]
    exact ⟨_, q⟩
  · rw [decide_eq_false (fun y => z (congrArg List.length y))] at k
    exact ⟨_, yl_diff r s a b h hr hs hT hS w.length v.length z (by omega) (by omega) (by omega) k w.length 0 (by omega)⟩
end
/-! a base, a clean text, the traits -/
def ur_ib (T : List Int32) : Bool := (ur_B T 0).isSome && (ur_au T || decide (ur_at (ur_C T 4) 0 = 47))
def ur_icl (T : List Int32) : Bool := decide (ur_C T 4 = ur_clean (ur_au T) (ur_C T 4))
def ur_tr (a b c d : Bool) : Int32 := nI ((if a = true then 1 else 0) + (if b = true then 2 else 0) + (if c = true then 4 else 0) + (if d = true then 8 else 0))
def ur_tT (T : List Int32) : Int32 := ur_tr (ur_B T 0).isSome (ur_ib T) (ur_icl T) (decide (ur_nm T = T))
theorem ur_e47 (T : List Int32) : ur_at T (ur_e T) = 47 ↔ ur_at (ur_C T 4) 0 = 47 := by
  have e1 := ur_e_hi T
  have e2 := ur_q_hi T
  have e3 := ur_f_hi T
  have hC : ur_C T 4 = ur_ex T (ur_e T) (ur_q T) := ur_C_s (ur_B4 T)
  rcases Nat.lt_or_ge (ur_e T) (ur_q T) with z | z
  · rw [hC, ur_ex_at (by omega)]; exact Iff.rfl
  · have e4 : ur_e T = ur_q T := by omega
    rw [hC, ur_ex_nil z]
    constructor
    · intro w
      have l := ur_lt_of w (by decide)
      rcases Nat.lt_or_ge (ur_q T) (ur_f T) with b | b
      · have : ur_at T (ur_q T) = 63 := ur_find_is (ur_f_lo T) b
        rw [← e4, w] at this; exact absurd this (by decide)
      · have e5 : ur_q T = ur_f T := by omega
        have : ur_at T (ur_f T) = 35 := ur_find_is (ur_sb_le T) (by show ur_f T < _; omega)
        rw [← e5, ← e4, w] at this; exact absurd this (by decide)
    · intro w; exact absurd w (by decide)
section
variable {bh lim cnt : Int32} {m l fa ta wa : Nat → Int32} {L0 L : Nat → Option (List Int32)} {t7 t8 T : List Int32}
theorem xa_ib {post : Int32 → Prop} (r : Nat) (h : ur_M 128 L m l) (hr : r < 11) (hL : L r = some T) (hB : ur_BX r T fa ta) (k : post (ur_b (ur_ib T))) : wpX_isBase post (ur_x bh lim cnt m l fa ta wa) (nI r) := by
  have h8 := ur_M_le h hr hL
  have v4 : vp_in (nI (r * 8) + 4) 88 := ur_iv r 4 hr (by decide)
  have i4 : (nI (r * 8) + 4).toNatClampNeg = r * 8 + 4 := ur_ic r 4 hr (by decide)
  have q := ur_q_le T
  have qe := ur_e_hi T
  have hC : ur_C T 4 = ur_ex T (ur_e T) (ur_q T) := ur_C_s (ur_B4 T)
  unfold wpX_isBase
  dsimp only
  unfold ur_ib at k
  rw [ur_m8, i4, (hB 4 (by decide)).1, (hB 4 (by decide)).2, ur_fX_s (ur_B4 T), ur_tX_s (ur_B4 T)]
  refine xa_has r 0 hr (by decide) hB h8 (ur_br (fun z => ?_) (fun z => ?_))
  · rw [z] at k; exact k
  · rw [z, Bool.true_and] at k
    refine xa_has r 7 hr (by decide) hB h8 ?_
    rw [ur_B7s]
    refine ur_br (fun y => ⟨v4, nm_e ⟨v4, ?_⟩⟩) (fun y => ?_)
    · rw [y, Bool.false_or] at k
      refine pk_le (r * 128 + ur_q T) (r * 128 + ur_e T) (fun w => ?_) (fun w => ⟨vp_in_nI (by omega) (by decide), ?_⟩)
      · rw [hC, ur_ex_nil (by omega)] at k
        exact k
      · rw [nI_clamp (show r * 128 + ur_e T < 2 ^ 31 by omega), ur_M_at h hr hL (by omega)]
        rw [hC, ur_ex_at (by omega), Nat.add_zero] at k
        refine br_c (fun v => ?_) (fun v => ?_)
        · rw [decide_eq_true v] at k; exact k
        · rw [decide_eq_false v] at k; exact k
    · rw [y] at k; exact k
theorem xa_icl {post : Int32 → SX → Prop} (r : Nat) (hr : r < 7) (hS : L0 r = some T) (h40 : T.length ≤ 100) (hB : ur_BX r T fa ta) (h : ur_W 128 L0 m l t7 t8)
    (k : ∀ m' l' t, ur_W 128 L0 m' l' t7 t → post (ur_b (ur_icl T)) (ur_x bh lim cnt m' l' fa ta wa)) : wpX_isClean post (ur_x bh lim cnt m l fa ta wa) (nI r) := by
  have v4 : vp_in (nI (r * 8) + 4) 88 := ur_iv r 4 (by omega) (by decide)
  have i4 : (nI (r * 8) + 4).toNatClampNeg = r * 8 + 4 := ur_ic r 4 (by omega) (by decide)
  have q := ur_q_le T
  have qe := ur_e_hi T
  have hC : ur_C T 4 = ur_ex T (ur_e T) (ur_q T) := ur_C_s (ur_B4 T)
  have l4 := ur_l4 T
  have cl := ur_clean_len (ur_au T) (ur_C T 4)
  unfold wpX_isClean
  dsimp only
  rw [ur_m8, i4]
  refine ⟨v4, nm_e ⟨v4, nm_e (nm_e ?_)⟩⟩
  refine xw_rng8 r 4 (ur_W_n8 h) (by omega) (by omega) (by omega) hS (by rw [List.length_nil]; omega) (hB 4 (by decide)).1 (hB 4 (by decide)).2 (fun m1 l1 h1 => ?_)
  rw [List.nil_append] at h1
  refine xa_has r 7 (by omega) (by decide) hB (by omega) ?_
  rw [ur_B7s]
  refine xw_clean h1 (by omega) (fun m2 l2 h2 => ?_)
  obtain ⟨L, hM, h7, h8, hk⟩ := h2
  have hL : L r = some T := (hk r (by omega) (by omega)).trans hS
  have G1 := ur_M_G hM (r := r) (by omega) hL (ur_G_ex qe q)
  rw [← hC] at G1
  have G2 := ur_M_G hM (r := 8) (by decide) h8 (a := 0) (x := ur_clean (ur_au T) (ur_C T 4)) ⟨by omega, fun i _ => by rw [Nat.zero_add]⟩
  refine xa_same (r * 128 + ur_e T) (8 * 128 + 0) _ _ G1 G2 (by rw [(hB 4 (by decide)).1, ur_fX_s (ur_B4 T)]) (by rw [(hB 4 (by decide)).2, ur_tX_s (ur_B4 T), l4]; exact congrArg nI (by omega)) rfl ?_ ⟨ur_b_n _, ?_⟩
  · show (1024 : Int32) + l2 8 = _
    rw [ur_M_len hM (r := 8) (by decide) h8]; exact nI_add 1024 _
  · exact k m2 l2 _ ⟨L, hM, h7, h8, hk⟩
/-- sameText of region 7 and a region r -/
theorem xa_st7 {post : Int32 → Prop} (r : Nat) (hr : r < 7) (hS : L0 r = some T) (h : ur_W 128 L0 m l t7 t8) (k : post (ur_b (decide (t7 = T)))) : wpX_sameText post (ur_x bh lim cnt m l fa ta wa) 7 (nI r) := by
  obtain ⟨L, hM, h7, h8, hk⟩ := h
  have hL : L r = some T := (hk r (by omega) (by omega)).trans hS
  have G7 := ur_M_G hM (r := 7) (by decide) h7 (a := 0) (x := t7) ⟨by omega, fun i _ => by rw [Nat.zero_add]⟩
  have GT := ur_M_G hM (r := r) (by omega) hL (a := 0) (x := T) ⟨by omega, fun i _ => by rw [Nat.zero_add]⟩
  unfold wpX_sameText
  dsimp only
  rw [nI_clamp (show r < 2 ^ 31 by omega), ur_M_len hM (by omega) hL]
  have e7 : l (7 : Int32).toNatClampNeg = nI t7.length := ur_M_len hM (r := 7) (by decide) h7
  rw [e7]
  refine nm_r (e' := nI (7 * 128)) (ur_m128 7) (nm_r (ur_m128 r) ⟨vp_in_nI (n := 7) (by decide) (by decide), vp_in_nI (by omega) (by decide), ?_⟩)
  exact xa_same (7 * 128 + 0) (r * 128 + 0) t7 T G7 GT rfl (nI_add _ _) rfl (nI_add _ _) ⟨ur_b_n _, k⟩
theorem xa_tr {post : Int32 → SX → Prop} (r : Nat) (hr : r < 6) (hS : L0 r = some T) (h40 : T.length ≤ 100) (hB : ur_BX r T fa ta) (h : ur_W 128 L0 m l t7 t8)
    (k : ∀ m' l' t7 t8, ur_W 128 L0 m' l' t7 t8 → post (ur_tT T) (ur_x bh lim cnt m' l' fa ta wa)) {x : Int32} (hx : x = ur_b (ur_B T 0).isSome) : wX_traits_29 post (nI r) x 128 6 7 8 9 10 bh lim cnt m l fa ta wa := by
  subst hx
  have h40' : wX_traits_40 post (nI r) (ur_tr (ur_B T 0).isSome (ur_ib T) false false) 128 6 7 8 9 10 bh lim cnt m l fa ta wa := by
    unfold wX_traits_40
    refine xa_icl r (by omega) hS h40 hB h (fun m1 l1 t h1 => ?_)
    have h51 : wX_traits_51 post (nI r) (ur_tr (ur_B T 0).isSome (ur_ib T) (ur_icl T) false) 128 6 7 8 9 10 bh lim cnt m1 l1 fa ta wa := by
      unfold wX_traits_51
      refine xa_bn r (by omega) hS h40 hB h1 (fun m2 l2 t2 h2 => ?_)
      refine xa_st7 r (by omega) hS h2 ?_
      have k := k m2 l2 _ _ h2
      unfold ur_tT at k
      refine ur_br (fun z => ?_) (fun z => nm_r (e' := ur_tr (ur_B T 0).isSome (ur_ib T) (ur_icl T) true) ?_ ?_)
      · rw [z] at k; exact k
      · cases (ur_B T 0).isSome <;> cases ur_ib T <;> cases ur_icl T <;> rfl
      · rw [z] at k; exact k
    refine ur_br (fun z => ?_) (fun z => nm_r (e' := ur_tr (ur_B T 0).isSome (ur_ib T) true false) ?_ ?_)
    · rw [z] at h51; exact h51
    · cases (ur_B T 0).isSome <;> cases ur_ib T <;> rfl
    · rw [z] at h51; exact h51
  unfold wX_traits_29
  have hM := h
  obtain ⟨L, hM, h7, h8, hk⟩ := hM
  refine xa_ib r hM (by omega) ((hk r (by omega) (by omega)).trans hS) hB (ur_br (fun z => ?_) (fun z => nm_r (e' := ur_tr (ur_B T 0).isSome true false false) ?_ ?_))
  · rw [z] at h40'
    have e : ur_tr (ur_B T 0).isSome false false false = ur_b (ur_B T 0).isSome := by cases (ur_B T 0).isSome <;> rfl
    rw [e] at h40'; exact h40'
  · cases (ur_B T 0).isSome <;> rfl
  · rw [z] at h40'; exact h40'
end
end
section
/-! the reference's traits; ranges -/
section
variable {lim cnt : Int32} {yc yn ys ye : Nat → Int32} {L0 L : Nat → Option (List Int32)} {t7 t8 T : List Int32}
theorem ys_t152 {post : Int32 → SY → Prop} (r : Nat) (hr : r < 6) (hS : L0 r = some T) (h40 : T.length ≤ 100) (hev : ∀ k, k < 7 → k ≠ 3 → ur_ev (ur_C T k) = true) (h : ur_W 256 L0 yc yn t7 t8) {z0 z1 : Int32} {a b c : Bool} (hz : z1 + z0 = ur_tr a b c false)
    (k : ∀ c' n' s' e' t7 t8, ur_W 256 L0 c' n' t7 t8 → post (ur_tr a b c (decide (ur_nm T = T))) (ur_y lim cnt c' n' s' e')) : wY_traits_152 post (nI r) z0 z1 lim cnt yc yn ys ye := by
  unfold wY_traits_152
  refine nm_r hz (ya_normal r (by omega) hS h40 hev h (fun c1 n1 s1 e1 t h1 => ⟨vp_in_nI (by omega) (by decide), ?_⟩))
  have k := k c1 n1 s1 e1 _ _ h1
  obtain ⟨L, hM, h7, h8, hk⟩ := h1
  have hL : L r = some T := (hk r (by omega) (by omega)).trans hS
  have e7 : n1 7 = nI (ur_nm T).length := ur_M_len hM (r := 7) (by decide) h7
  have er : n1 (nI r).toNatClampNeg = nI T.length := by rw [nI_clamp (by omega)]; exact ur_M_len hM (by omega) hL
  rw [e7, er]
  refine ya_same 7 r 0 0 (ur_nm T) T hM (by decide) (by omega) h7 hL ⟨by omega, fun i _ => by rw [Nat.zero_add]⟩ ⟨by omega, fun i _ => by rw [Nat.zero_add]⟩ rfl (by rw [Nat.zero_add]) rfl (by rw [Nat.zero_add]) ?_
  refine ur_br (fun z => ?_) (fun z => ?_)
  · rw [z] at k
    have e : ur_tr a b c false + 0 = ur_tr a b c false := by cases a <;> cases b <;> cases c <;> rfl
    rw [e]; exact k
  · rw [z] at k
    have e : ur_tr a b c false + 8 = ur_tr a b c true := by cases a <;> cases b <;> cases c <;> rfl
    rw [e]; exact k
theorem ys_t85 {post : Int32 → SY → Prop} (r : Nat) (hr : r < 6) (hS : L0 r = some T) (h40 : T.length ≤ 100) (hev : ∀ k, k < 7 → k ≠ 3 → ur_ev (ur_C T k) = true) (h : ur_W 256 L0 yc yn t7 t8) {a b : Bool}
    (k : ∀ c' n' s' e' t7 t8, ur_W 256 L0 c' n' t7 t8 → post (ur_tr a b (ur_icl T) (decide (ur_nm T = T))) (ur_y lim cnt c' n' s' e')) : wY_traits_85 post (nI r) (nI (ur_e T)) (nI (ur_q T)) (ur_b a) (ur_b (ur_au T)) (ur_b b) lim cnt yc yn ys ye := by
  have q := ur_q_le T
  have qe := ur_e_hi T
  have hC : ur_C T 4 = ur_ex T (ur_e T) (ur_q T) := ur_C_s (ur_B4 T)
  have l4 := ur_l4 T
  unfold wY_traits_85
  refine nm_e (yw_cleanr8 r (ur_e T) (ur_q T) (ur_W_n8 h) (by omega) (by omega) (by omega) hS qe q (by omega) (by rw [List.length_nil]; omega) (fun c1 n1 s1 e1 h1 => ?_))
  rw [List.nil_append, ← hC] at h1
  have h126 : ∀ z0 z1 : Int32, z1 + z0 = ur_tr a b false false → wY_traits_126 post (nI r) (nI (ur_e T)) (nI (ur_q T)) z0 z1 lim cnt c1 n1 s1 e1 := by
    intro z0 z1 hz
    have h1' := h1
    obtain ⟨L, hM, h7, h8, hk⟩ := h1'
    have hL : L r = some T := (hk r (by omega) (by omega)).trans hS
    have e8 : n1 8 = nI (ur_clean (ur_au T) (ur_C T 4)).length := ur_M_len hM (r := 8) (by decide) h8
    have G := ur_G_ex qe q
    rw [← hC] at G
    unfold wY_traits_126
    rw [e8]
    refine ya_same r 8 (ur_e T) 0 (ur_C T 4) (ur_clean (ur_au T) (ur_C T 4)) hM (by omega) (by decide) hL h8 G ⟨by omega, fun i _ => by rw [Nat.zero_add]⟩ rfl (by rw [l4]; exact congrArg nI (by omega)) rfl (by rw [Nat.zero_add]) ?_
    unfold ur_icl at k
    refine ur_br (fun z => ?_) (fun z => ?_)
    · rw [z] at k
      exact ys_t152 (c := false) r hr hS h40 hev h1 (by rw [hz]; cases a <;> cases b <;> rfl) k
    · rw [z] at k
      exact ys_t152 (c := true) r hr hS h40 hev h1 (by rw [hz]; cases a <;> cases b <;> rfl) k
  have h116 : ∀ z : Int32, z = ur_b a → wY_traits_116 post (nI r) (nI (ur_e T)) (nI (ur_q T)) (ur_b b) z lim cnt c1 n1 s1 e1 := by
    intro z hz
    subst hz
    unfold wY_traits_116
    refine ur_br (fun y => h126 _ _ ?_) (fun y => h126 _ _ ?_)
    · rw [y]; cases a <;> rfl
    · rw [y]; cases a <;> rfl
  exact ur_br (fun z => h116 _ (by rw [z]; rfl)) (fun z => h116 _ (by rw [z]; rfl))
theorem ys_t57 {post : Int32 → SY → Prop} (r : Nat) (hr : r < 6) (hS : L0 r = some T) (h40 : T.length ≤ 100) (hev : ∀ k, k < 7 → k ≠ 3 → ur_ev (ur_C T k) = true) (h : ur_W 256 L0 yc yn t7 t8)
    (k : ∀ c' n' s' e' t7 t8, ur_W 256 L0 c' n' t7 t8 → post (ur_tT T) (ur_y lim cnt c' n' s' e')) : wY_traits_57 post (nI r) (nI (ur_e T)) (nI (ur_q T)) (ur_b (ur_B T 0).isSome) (ur_b (ur_au T)) lim cnt yc yn ys ye := by
  have q := ur_e_le T
  have go := ys_t85 (post := post) (lim := lim) (cnt := cnt) (ys := ys) (ye := ye) r hr hS h40 hev h k
  unfold ur_ib at go
  unfold wY_traits_57 wY_traits_84 wY_traits_80
  refine ur_br (fun z => ?_) (fun z => ?_)
  · rw [z] at go ⊢; exact go
  · rw [z] at go ⊢
    refine ur_br (fun y => yw_at r (ur_e T) h (by omega) (by omega) (by omega) hS (by omega) (br_c (fun w => ?_) (fun w => ?_))) (fun y => ?_)
    · rw [y, decide_eq_true ((ur_e47 T).mp w)] at go; rw [y]; exact go
    · rw [y, decide_eq_false (fun v => w ((ur_e47 T).mpr v))] at go; rw [y]; exact go
    · rw [y] at go ⊢; exact go
theorem ys_tr {post : Int32 → SY → Prop} (r : Nat) (hr : r < 6) (hS : L0 r = some T) (h40 : T.length ≤ 100) (hev : ∀ k, k < 7 → k ≠ 3 → ur_ev (ur_C T k) = true) (h : ur_W 256 L0 yc yn t7 t8)
    (k : ∀ c' n' s' e' t7 t8, ur_W 256 L0 c' n' t7 t8 → post (ur_tT T) (ur_y lim cnt c' n' s' e')) :
    wpY_begin (fun r_9 => wpY_end (fun r_16 => wpY_begin (fun r_23 => (r_23 < 0 → wY_traits_40 post (nI r) r_9 r_16 0 lim cnt yc yn ys ye) ∧ (¬ r_23 < 0 → wY_traits_40 post (nI r) r_9 r_16 1 lim cnt yc yn ys ye)) (ur_y lim cnt yc yn ys ye) (nI r) 0) (ur_y lim cnt yc yn ys ye) (nI r) 4) (ur_y lim cnt yc yn ys ye) (nI r) 4 := by
  have go := ys_t57 (post := post) (lim := lim) (cnt := cnt) (ys := ys) (ye := ye) r hr hS h40 hev h k
  have g40 : wY_traits_40 post (nI r) (nI (ur_e T)) (nI (ur_q T)) (ur_b (ur_B T 0).isSome) lim cnt yc yn ys ye := by
    unfold wY_traits_40
    refine yw_begin r 7 h (by omega) (by omega) (by omega) (by decide) hS ?_
    cases au : ur_au T
    · rw [au] at go
      have hB : ur_B T 7 = none := by rw [ur_B7, if_pos au]
      rw [ur_E_n hB]
      exact br_t ur_m1lt go
    · rw [au] at go
      have hB : ur_B T 7 = some (ur_sb T + 2, ur_e T) := by rw [ur_B7, if_neg (by rw [au]; decide)]
      have b := ur_B_b hB
      rw [ur_E_0 hB]
      exact br_f (nI_pos (by omega)) go
  refine yw_begin r 4 h (by omega) (by omega) (by omega) (by decide) hS (yw_end r 4 h (by omega) (by omega) (by omega) (by decide) hS (yw_begin r 0 h (by omega) (by omega) (by omega) (by decide) hS ?_))
  rw [ur_E_0 (ur_B4 T), ur_E_1 (ur_B4 T)]
  cases hB : ur_B T 0 with
  | none =>
    rw [hB] at g40
    rw [ur_E_n hB]
    exact br_t ur_m1lt g40
  | some p =>
    have b := ur_B_b (a := p.1) (b := p.2) hB
    rw [hB] at g40
    rw [ur_E_0 (a := p.1) (b := p.2) hB]
    exact br_f (nI_pos (by omega)) g40
end
/-! slot numbers -/
def ur_rg (cn : Nat) (v : Int32) : Prop := v < 0 ∨ nI cn ≤ v
theorem ur_rg_no {cn s : Nat} (hc : cn ≤ 6) (hs : s < cn) : ¬ ur_rg cn (nI s) := by
  intro h
  rcases h with h | h
  · exact nI_pos (by omega) h
  · exact nI_ge hs (by omega) h
theorem ur_rg_or (cn : Nat) (hc : cn ≤ 6) (v : Int32) : ur_rg cn v ∨ ∃ s, s < cn ∧ v = nI s := by
  rcases pk_ix v (show cn < 2 ^ 31 by omega) with h | h | h
  · exact Or.inl (Or.inl h)
  · exact Or.inl (Or.inr h)
  · exact Or.inr h
theorem xa_inR {post : Int32 → Prop} {bh lim : Int32} {m l fa ta wa : Nat → Int32} {cn : Nat} {v : Int32} (hc : cn ≤ 6) (f : ur_rg cn v → post 0) (g : ∀ s, s < cn → v = nI s → post 1) : wpX_inRange post (ur_x bh lim (nI cn) m l fa ta wa) v := by
  rcases ur_rg_or cn hc v with h | ⟨s, hs, rfl⟩
  · refine br_c (fun _ => f h) (fun z => br_t ?_ (f h))
    rcases h with h | h
    · exact absurd h z
    · exact h
  · exact br_f (nI_pos (by omega)) (br_f (nI_ge hs (by omega)) (g s hs rfl))
theorem xa_fil {post : Int32 → Prop} {bh lim : Int32} {m l fa ta wa : Nat → Int32} {L : Nat → Option (List Int32)} {cn : Nat} {v : Int32} (hc : cn ≤ 6) (h : ur_M 128 L m l) (f : ur_rg cn v → post 0) (g : ∀ s, s < cn → v = nI s → post (ur_b (L s).isSome)) : wpX_isFilled post (ur_x bh lim (nI cn) m l fa ta wa) v := by
  rcases ur_rg_or cn hc v with h | ⟨s, hs, rfl⟩
  · refine br_c (fun _ => f h) (fun z => br_t ?_ (f h))
    rcases h with h | h
    · exact absurd h z
    · exact h
  · have g := g s hs rfl
    refine br_f (nI_pos (by omega)) (br_f (nI_ge hs (by omega)) ⟨vp_in_nI (by omega) (by decide), ?_⟩)
    rw [nI_clamp (show s < 2 ^ 31 by omega)]
    cases hL : L s with
    | none => rw [(h s (by omega)).1 hL]; rw [hL] at g; exact br_t ur_m1lt g
    | some t =>
      have q := ur_M_le h (show s < 11 by omega) hL
      rw [ur_M_len h (by omega) hL]; rw [hL] at g; exact br_f (nI_pos (by omega)) g
theorem ya_check {post : Int32 → Prop} {lim : Int32} {yc yn ys ye : Nat → Int32} {L : Nat → Option (List Int32)} {cn : Nat} {a b c : Int32} (hc : cn ≤ 6) (h : ur_M 256 L yc yn) (f : ur_rg cn a ∨ ur_rg cn b ∨ ur_rg cn c → post 2)
    (g : ∀ s t d, s < cn → t < cn → d < cn → a = nI s → b = nI t → c = nI d → post (if (L s).isNone = true ∨ (L t).isNone = true then 3 else 0)) : wpY_check post (ur_y lim (nI cn) yc yn ys ye) a b c := by
  unfold wpY_check
  dsimp only
  rcases ur_rg_or cn hc a with ha | ⟨s, hs, rfl⟩
  · have p := f (Or.inl ha)
    refine br_c (fun _ => p) (fun z => br_t ?_ p)
    rcases ha with w | w
    · exact absurd w z
    · exact w
  refine br_f (nI_pos (by omega)) (br_f (nI_ge hs (by omega)) ?_)
  rcases ur_rg_or cn hc b with hb | ⟨t, ht, rfl⟩
  · have p := f (Or.inr (Or.inl hb))
    refine br_c (fun _ => p) (fun z => br_t ?_ p)
    rcases hb with w | w
    · exact absurd w z
    · exact w
  refine br_f (nI_pos (by omega)) (br_f (nI_ge ht (by omega)) ?_)
  rcases ur_rg_or cn hc c with hd | ⟨d, hd, rfl⟩
  · have p := f (Or.inr (Or.inr hd))
    refine br_c (fun _ => p) (fun z => br_f ?_ p)
    rcases hd with w | w
    · exact absurd w z
    · exact Int32.not_lt.mpr w
  refine br_f (nI_pos (by omega)) (br_t (nI_lt hd (by omega)) ⟨vp_in_nI (by omega) (by decide), ?_⟩)
  have g := g s t d hs ht hd rfl rfl rfl
  rw [nI_clamp (show s < 2 ^ 31 by omega), nI_clamp (show t < 2 ^ 31 by omega)]
  cases hL : L s with
  | none =>
    rw [(h s (by omega)).1 hL]
    rw [if_pos (Or.inl (by rw [hL]; rfl))] at g
    exact br_t ur_m1lt g
  | some x =>
    have q := ur_M_le h (show s < 11 by omega) hL
    rw [ur_M_len h (by omega) hL]
    refine br_f (nI_pos (by omega)) ⟨vp_in_nI (by omega) (by decide), ?_⟩
    cases hL2 : L t with
    | none =>
      rw [(h t (by omega)).1 hL2]
      rw [if_pos (Or.inr (by rw [hL2]; rfl))] at g
      exact br_f ur_m1le g
    | some y =>
      have q2 := ur_M_le h (show t < 11 by omega) hL2
      rw [ur_M_len h (by omega) hL2]
      rw [hL, hL2, if_neg (by intro z; rcases z with z | z <;> cases z)] at g
      exact br_t (nI_pos' (by omega)) g
end
section
theorem pk_tn {n : Nat} (h : n < 2 ^ 32) : (nI n).toBitVec.toNat = n := Nat.mod_eq_of_lt h
theorem pk_and (x : Int32) {m : Int32} (k : Nat) (hm : m.toBitVec.toNat = 2 ^ k - 1) : x &&& m = nI (x.toBitVec.toNat % 2 ^ k) := by
  apply Int32.toBitVec_inj.mp
  apply BitVec.eq_of_toNat_eq
  rw [Int32.toBitVec_and, BitVec.toNat_and, hm, Nat.and_two_pow_sub_one_eq_mod]
  show _ = (BitVec.ofNat 32 _).toNat
  rw [BitVec.toNat_ofNat]
  exact (Nat.mod_eq_of_lt (Nat.lt_of_le_of_lt (Nat.mod_le _ _) x.toBitVec.isLt)).symm
theorem pk_andN {n : Nat} (h : n < 2 ^ 32) {m : Int32} (k : Nat) (hm : m.toBitVec.toNat = 2 ^ k - 1) : nI n &&& m = nI (n % 2 ^ k) := by
  rw [pk_and _ k hm, pk_tn h]
/-! the shortest relative form: pure -/
def ur_ds : Nat → List Int32
  | 0 => []
  | n + 1 => ur_ds n ++ [if n % 3 = 2 then 47 else 46]
theorem ur_ds_len : ∀ n, (ur_ds n).length = n
  | 0 => rfl
  | n + 1 => by rw [ur_ds, List.length_append, ur_ds_len n]; rfl
/-- the length of what is put ahead, by its number -/
def ur_pl (k : Nat) : Nat := if k < 3 then k else if k = 3 then 2 else 3 * ((k - 4) / 2 + 1) - k % 2
/-- what is put ahead of a rest, by its number -/
def ur_pre (k : Nat) : List Int32 := if k = 0 then [] else if k = 1 then [46] else if k = 2 then [46, 47] else if k = 3 then [47, 46] else ur_ds (ur_pl k)
theorem ur_pre_len (k : Nat) : (ur_pre k).length = ur_pl k := by
  unfold ur_pre
  by_cases h0 : k = 0
  · subst h0; rfl
  by_cases h1 : k = 1
  · subst h1; rfl
  by_cases h2 : k = 2
  · subst h2; rfl
  by_cases h3 : k = 3
  · subst h3; rfl
  rw [if_neg h0, if_neg h1, if_neg h2, if_neg h3, ur_ds_len]
def ur_lex : List Int32 → List Int32 → Bool
  | c :: x, d :: y => if c = d then ur_lex x y else !decide (d ≤ c)
  | _, _ => false
/-- shorter, or as long and before it -/
def ur_bet (c b : List Int32) : Bool := if c.length = b.length then ur_lex c b else decide (c.length < b.length)
theorem ur_lex_irr : ∀ c, ur_lex c c = false
  | [] => rfl
  | c :: x => by rw [ur_lex, if_pos rfl]; exact ur_lex_irr x
theorem ur_lex_tr : ∀ a b c, a.length = b.length → b.length = c.length → ur_lex a b = true → ur_lex b c = true → ur_lex a c = true
  | [], [], _, _, _, h, _ => by cases h
  | [], _ :: _, _, h, _, _, _ => absurd h (by simp)
  | _ :: _, [], _, h, _, _, _ => absurd h (by simp)
  | _ :: _, _ :: _, [], _, h, _, _ => absurd h (by simp)
  | p :: a, q :: b, r :: c, h1, h2, h3, h4 => by
    rw [ur_lex] at h3 h4 ⊢
    simp only [List.length_cons] at h1 h2
    by_cases e1 : p = q
    · subst e1
      rw [if_pos rfl] at h3
      by_cases e2 : p = r
      · subst e2
        rw [if_pos rfl] at h4 ⊢
        exact ur_lex_tr a b c (by omega) (by omega) h3 h4
      · rw [if_neg e2] at h4 ⊢; exact h4
    · rw [if_neg e1, Bool.not_eq_true', decide_eq_false_iff_not] at h3
      have l1 : p < q := Int32.not_le.mp h3
      by_cases e2 : q = r
      · subst e2
        rw [if_neg e1, Bool.not_eq_true', decide_eq_false_iff_not]; exact h3
      · rw [if_neg e2, Bool.not_eq_true', decide_eq_false_iff_not] at h4
        have l2 : q < r := Int32.not_le.mp h4
        have l3 := Int32.lt_trans l1 l2
        rw [if_neg (fun z => by rw [z] at l3; exact Int32.lt_irrefl l3), Bool.not_eq_true', decide_eq_false_iff_not]
        exact Int32.not_le.mpr l3
theorem ur_lex_tot : ∀ a b, a.length = b.length → ur_lex a b = false → ur_lex b a = false → a = b
  | [], [], _, _, _ => rfl
  | [], _ :: _, h, _, _ => absurd h (by simp)
  | _ :: _, [], h, _, _ => absurd h (by simp)
  | p :: a, q :: b, h1, h2, h3 => by
    rw [ur_lex] at h2 h3
    simp only [List.length_cons] at h1
    by_cases e : p = q
    · subst e
      rw [if_pos rfl] at h2 h3
      rw [ur_lex_tot a b (by omega) h2 h3]
    · rw [if_neg e, Bool.not_eq_false', decide_eq_true_eq] at h2
      rw [if_neg (fun z => e z.symm), Bool.not_eq_false', decide_eq_true_eq] at h3
      exact absurd (Int32.le_antisymm h3 h2) e
theorem ur_bet_irr (c : List Int32) : ur_bet c c = false := by unfold ur_bet; rw [if_pos rfl]; exact ur_lex_irr c
theorem ur_bet_tr {a b c : List Int32} (h1 : ur_bet a b = true) (h2 : ur_bet b c = true) : ur_bet a c = true := by
  unfold ur_bet at *
  by_cases e1 : a.length = b.length
  · rw [if_pos e1] at h1
    by_cases e2 : b.length = c.length
    · rw [if_pos e2] at h2
      rw [if_pos (e1.trans e2)]; exact ur_lex_tr a b c e1 e2 h1 h2
    · rw [if_neg e2, decide_eq_true_eq] at h2
      rw [if_neg (by omega), decide_eq_true_eq]; omega
  · rw [if_neg e1, decide_eq_true_eq] at h1
    by_cases e2 : b.length = c.length
    · rw [if_neg (by omega), decide_eq_true_eq]; omega
    · rw [if_neg e2, decide_eq_true_eq] at h2
      rw [if_neg (by omega), decide_eq_true_eq]; omega
theorem ur_bet_tot {a b : List Int32} (h1 : ur_bet a b = false) (h2 : ur_bet b a = false) : a = b := by
  unfold ur_bet at *
  by_cases e : a.length = b.length
  · rw [if_pos e] at h1
    rw [if_pos e.symm] at h2
    exact ur_lex_tot a b e h1 h2
  · rw [if_neg e, decide_eq_false_iff_not] at h1
    rw [if_neg (fun z => e z.symm), decide_eq_false_iff_not] at h2
    omega
theorem ur_bet_len {a b : List Int32} (h : ur_bet a b = false) : b.length ≤ a.length := by
  unfold ur_bet at h
  by_cases e : a.length = b.length
  · omega
  · rw [if_neg e, decide_eq_false_iff_not] at h; omega
theorem ur_bet_long {a b : List Int32} (h : b.length < a.length) : ur_bet a b = false := by
  unfold ur_bet
  rw [if_neg (by omega), decide_eq_false (by omega)]
/-- a candidate that counts -/
def ur_okc (B G c : List Int32) : Bool := decide (ur_J c = 0) && decide (ur_bd B c = G)
def ur_try (B G t c : List Int32) : List Int32 := if ur_bet c t = true ∧ ur_okc B G c = true then c else t
/-- t is the best of G and the candidates Q that count -/
def ur_IB (B G : List Int32) (Q : List Int32 → Prop) (t : List Int32) : Prop := (t = G ∨ (Q t ∧ ur_okc B G t = true)) ∧ ur_bet G t = false ∧ ∀ c, Q c → ur_okc B G c = true → ur_bet c t = false
theorem ur_IB_0 (B G : List Int32) : ur_IB B G (fun _ => False) G := ⟨Or.inl rfl, ur_bet_irr G, fun c h => h.elim⟩
theorem ur_IB_s {B G t c : List Int32} {Q : List Int32 → Prop} (h : ur_IB B G Q t) : ur_IB B G (fun d => Q d ∨ d = c) (ur_try B G t c) := by
  obtain ⟨h1, h2, h3⟩ := h
  unfold ur_try
  by_cases z : ur_bet c t = true ∧ ur_okc B G c = true
  · rw [if_pos z]
    refine ⟨Or.inr ⟨Or.inr rfl, z.2⟩, ?_, fun d hd hk => ?_⟩
    · cases w : ur_bet G c
      · rfl
      · rw [ur_bet_tr w z.1] at h2; cases h2
    · rcases hd with hd | hd
      · cases w : ur_bet d c
        · rfl
        · have := h3 d hd hk
          rw [ur_bet_tr w z.1] at this; cases this
      · subst hd; exact ur_bet_irr d
  · rw [if_neg z]
    refine ⟨h1.imp id (fun w => ⟨Or.inl w.1, w.2⟩), h2, fun d hd hk => ?_⟩
    rcases hd with hd | hd
    · exact h3 d hd hk
    · subst hd
      cases w : ur_bet d t
      · rfl
      · exact absurd ⟨w, hk⟩ z
theorem ur_IB_c {B G t : List Int32} {Q Q' : List Int32 → Prop} (h : ur_IB B G Q t) (e : ∀ c, Q c ↔ Q' c) : ur_IB B G Q' t :=
  ⟨h.1.imp id (fun w => ⟨(e _).mp w.1, w.2⟩), h.2.1, fun c hc hk => h.2.2 c ((e c).mpr hc) hk⟩
theorem ur_IB_u {B G t t' : List Int32} {Q : List Int32 → Prop} (h : ur_IB B G Q t) (h' : ur_IB B G Q t') : t = t' := by
  have one : ∀ {x y : List Int32}, ur_IB B G Q x → ur_IB B G Q y → ur_bet x y = false := by
    intro x y hx hy
    rcases hx.1 with e | e
    · rw [e]; exact hy.2.1
    · exact hy.2.2 x e.1 e.2
  exact ur_bet_tot (one h h') (one h' h)
/-- a candidate -/
def ur_cd (G : List Int32) (cut k : Nat) : List Int32 := ur_pre k ++ ur_ex G cut G.length
/-- the number of slashes -/
def ur_n47 : List Int32 → Nat
  | [] => 0
  | c :: l => (if c = 47 then 1 else 0) + ur_n47 l
theorem ur_n47_le : ∀ l : List Int32, ur_n47 l ≤ l.length
  | [] => Nat.le_refl _
  | c :: l => by
    have := ur_n47_le l
    rw [ur_n47, List.length_cons]; split <;> omega
/-- the cuts -/
def ur_cut (G : List Int32) (c : Nat) : Prop := c = ur_f G ∨ c = ur_q G ∨ c = ur_e G ∨ c = ur_sb G ∨ c = 0 ∨ (ur_e G < c ∧ c ≤ ur_q G ∧ ur_at G (c - 1) = 47)
/-- what one cut adds -/
def ur_Qc (G : List Int32) (np : Nat) (Q : List Int32 → Prop) (cut : Nat) : List Int32 → Prop := fun c => Q c ∨ ∃ i, i < np ∧ c = ur_cd G cut i
end
section
/-! the component's search -/
/-- candidate t9, best t10, other work anyhow, slots and input as they were -/
def ur_V (W : Nat) (L0 : Nat → Option (List Int32)) (m l : Nat → Int32) (t9 t10 : List Int32) : Prop :=
  ∃ L, ur_M W L m l ∧ L 9 = some t9 ∧ L 10 = some t10 ∧ (∃ t, L 7 = some t) ∧ (∃ t, L 8 = some t) ∧ ∀ j, j < 7 → L j = L0 j
theorem ur_V_9 {W : Nat} {L0 L : Nat → Option (List Int32)} {m l : Nat → Int32} {t9 t10 : List Int32} (h : ur_M W (ur_s L 9 (some t9)) m l) (h10 : L 10 = some t10) (h7 : ∃ t, L 7 = some t) (h8 : ∃ t, L 8 = some t) (hk : ∀ j, j < 7 → L j = L0 j) : ur_V W L0 m l t9 t10 :=
  ⟨_, h, ur_s_e, (ur_s_n (by decide)).trans h10, h7.imp (fun _ e => (ur_s_n (by decide)).trans e), h8.imp (fun _ e => (ur_s_n (by decide)).trans e), fun j hj => (ur_s_n (by omega)).trans (hk j hj)⟩
theorem ur_V_10 {W : Nat} {L0 L : Nat → Option (List Int32)} {m l : Nat → Int32} {t9 t10 : List Int32} (h : ur_M W (ur_s L 10 (some t10)) m l) (h9 : L 9 = some t9) (h7 : ∃ t, L 7 = some t) (h8 : ∃ t, L 8 = some t) (hk : ∀ j, j < 7 → L j = L0 j) : ur_V W L0 m l t9 t10 :=
  ⟨_, h, (ur_s_n (by decide)).trans h9, ur_s_e, h7.imp (fun _ e => (ur_s_n (by decide)).trans e), h8.imp (fun _ e => (ur_s_n (by decide)).trans e), fun j hj => (ur_s_n (by omega)).trans (hk j hj)⟩
section
variable {bh lim cnt : Int32} {m l fa ta wa : Nat → Int32} {L0 L : Nat → Option (List Int32)} {t9 t10 T B G : List Int32}
theorem xa_pl {post : Int32 → Prop} (k : Nat) (hk : k < 200) (kk : post (nI (ur_pl k))) : wpX_prefixLength post (ur_x bh lim cnt m l fa ta wa) (nI k) := by
  unfold wpX_prefixLength
  dsimp only
  unfold ur_pl at kk
  refine pk_le 3 k (fun z => pk_eq k 3 (fun y => ?_) (fun y => ⟨by decide, ?_⟩)) (fun z => ?_)
  · rw [if_neg (by omega), if_pos y] at kk; exact kk
  · rw [if_neg (by omega), if_neg y] at kk
    have e1 : (nI k - 4) / 2 + 1 = nI ((k - 4) / 2 + 1) := by
      have a : nI k - 4 = nI (k - 4) := pk_sub (b := 4) (by omega)
      have b : nI (k - 4) / 2 = nI ((k - 4) / 2) := pk_div (d := 2) (by omega) (by decide) (by decide)
      rw [a, b, nI_1]
    refine nm_r e1 ?_
    have e2 : (3 : Int32) * nI ((k - 4) / 2 + 1) = nI (3 * ((k - 4) / 2 + 1)) := pk_mul 3 _
    have e3 : nI k &&& 1 = nI (k % 2) := pk_andN (m := 1) (by omega) 1 (by decide)
    rw [e2, e3, pk_sub (by omega)]
    exact kk
  · rw [if_pos (by omega)] at kk; exact kk
theorem xl_pre {post : SX → Prop} (n : Nat) (hn : n ≤ 120) : ∀ (d j : Nat) (m l : Nat → Int32) (L : Nat → Option (List Int32)), j + d = n → ur_M 128 L m l → L 9 = some (ur_ds j) →
    (∀ m' l', ur_M 128 (ur_s L 9 (some (ur_ds n))) m' l' → post (ur_x bh lim cnt m' l' fa ta wa)) →
    wX_addPrefix_62 post (nI n) (d + 1) (nI j) 128 6 7 8 9 10 bh lim cnt m l fa ta wa := by
  intro d
  induction d with
  | zero =>
    intro j m l L hj h h9 k
    have e : j = n := by omega
    subst e
    exact br_t (nI_le (Nat.le_refl _) (by omega)) (k m l (by rw [ur_s_id h9]; exact h))
  | succ d ih =>
    intro j m l L hj h h9 k
    refine br_f (nI_ge (by omega) (by omega)) ⟨by decide, ?_⟩
    have e3 : nI j - nI j / 3 * 3 = nI (j % 3) := pk_rem (d := 3) (by omega) (by decide) (by decide)
    rw [e3]
    have step : ∀ c : Int32, c = (if j % 3 = 2 then 47 else 46) → wpX_addChar (fun u => match u with | (a1, a2, a3, a4, a5, a6, a7, a8, a9, b1, b2, b3, b4, b5) => (∀ x : Int32, x = nI j + 1 → wX_addPrefix_62 post (nI n) (d + 1) x a1 a2 a3 a4 a5 a6 a7 a8 a9 b1 b2 b3 b4 b5)) (ur_x bh lim cnt m l fa ta wa) 9 c := by
      intro c hc
      refine xa_add 9 h (by decide) h9 (by rw [ur_ds_len]; omega) (fun m1 l1 h1 => nm_r (nI_1 _) ?_)
      refine ih (j + 1) m1 l1 _ (by omega) h1 ?_ ?_
      · rw [ur_s_e, ur_ds, hc]
      · rw [ur_s_s]; exact k
    refine pk_eq (j % 3) 2 (fun z => step 47 (by rw [if_pos z])) (fun z => step 46 (by rw [if_neg z]))
theorem xa_pre {post : SX → Prop} (k : Nat) (hk : k < 200) (hl : ur_pl k ≤ 120) (h : ur_M 128 L m l) (h9 : L 9 = some [])
    (kk : ∀ m' l', ur_M 128 (ur_s L 9 (some (ur_pre k))) m' l' → post (ur_x bh lim cnt m' l' fa ta wa)) : wpX_addPrefix post (ur_x bh lim cnt m l fa ta wa) (nI k) := by
  unfold wpX_addPrefix
  refine pk_eq k 3 (fun z => ?_) (fun z => xa_pl k hk ?_)
  · subst z
    refine xa_add 9 h (by decide) h9 (by decide) (fun m1 l1 h1 => ?_)
    refine xa_add 9 h1 (by decide) ur_s_e (by simp) (fun m2 l2 h2 => ?_)
    rw [ur_s_s] at h2
    exact kk m2 l2 h2
  · refine pk_le 3 k (fun y => ?_) (fun y => ?_)
    · have e : ur_pre k = ur_ds (ur_pl k) := by
        unfold ur_pre; rw [if_neg (by omega), if_neg (by omega), if_neg (by omega), if_neg z]
      rw [e] at kk
      exact ⟨_, xl_pre (ur_pl k) hl (ur_pl k) 0 m l L (by omega) h h9 kk⟩
    · have e : ur_pl k = k := by unfold ur_pl; rw [if_pos y]
      rw [e]
      have : k = 0 ∨ k = 1 ∨ k = 2 := by omega
      rcases this with rfl | rfl | rfl
      · refine br_t (by decide) ?_
        unfold wX_addPrefix_46
        have kk := kk m l
        rw [show ur_pre 0 = [] from rfl, ur_s_id h9] at kk
        exact br_t (by decide) (kk h)
      · refine br_f (by decide) (xa_add 9 h (by decide) h9 (by decide) (fun m1 l1 h1 => ?_))
        unfold wX_addPrefix_46
        exact br_t (by decide) (kk m1 l1 h1)
      · refine br_f (by decide) (xa_add 9 h (by decide) h9 (by decide) (fun m1 l1 h1 => ?_))
        unfold wX_addPrefix_46
        refine br_f (by decide) (xa_add 9 h1 (by decide) ur_s_e (by simp) (fun m2 l2 h2 => ?_))
        rw [ur_s_s] at h2
        exact kk m2 l2 h2
theorem xl_bet {post : Int32 → Prop} (n : Nat) (hn : n ≤ 128) : ∀ (x y : List Int32) (i : Nat), x.length = y.length → ur_G 1408 m (1152 + i) x → ur_G 1408 m (1280 + i) y → i + x.length = n → post (ur_b (ur_lex x y)) →
    wX_isBetter_47 post (nI n) 1152 1280 128 6 7 8 9 10 bh lim cnt m l fa ta wa (x.length + 1) (nI i)
  | [], [], i, _, _, _, hi, k => br_t (nI_le (by simp at hi; omega) (by simp at hi; omega)) k
  | [], _ :: _, i, h, _, _, _, _ => absurd h (by simp)
  | _ :: _, [], i, h, _, _, _, _ => absurd h (by simp)
  | c :: x, d :: y, i, h, hG, hH, hi, k => by
    obtain ⟨g1, g2, g3⟩ := ur_G_cons hG
    obtain ⟨h1, h2, h3⟩ := ur_G_cons hH
    simp only [List.length_cons] at h hi
    have e1 : (1152 : Int32) + nI i = nI (1152 + i) := nI_add 1152 i
    have e2 : (1280 : Int32) + nI i = nI (1280 + i) := nI_add 1280 i
    rw [wX_isBetter_47]
    dsimp only
    rw [e1, e2, nI_clamp (show 1152 + i < 2 ^ 31 by omega), nI_clamp (show 1280 + i < 2 ^ 31 by omega), g2, h2]
    rw [ur_lex] at k
    have v1 : vp_in (nI (1152 + i)) 1408 := vp_in_nI g1 (by decide)
    have v2 : vp_in (nI (1280 + i)) 1408 := vp_in_nI h1 (by decide)
    refine br_f (nI_ge (by omega) (by omega)) ⟨v1, v2, br_c (fun z => nm_r (nI_1 _) ?_) (fun z => ⟨v1, v2, br_c (fun y => ?_) (fun y => ?_)⟩)⟩
    · rw [if_pos z] at k
      exact xl_bet n hn x y (i + 1) (by omega) g3 h3 (by omega) k
    · rw [if_neg z, decide_eq_true y] at k; exact k
    · rw [if_neg z, decide_eq_false y] at k; exact k
theorem xa_bet {post : Int32 → Prop} (h : ur_M 128 L m l) (h9 : L 9 = some t9) (h10 : L 10 = some t10) (k : post (ur_b (ur_bet t9 t10))) : wpX_isBetter post (ur_x bh lim cnt m l fa ta wa) := by
  have q9 := ur_M_le h (r := 9) (by decide) h9
  have q10 := ur_M_le h (r := 10) (by decide) h10
  have e9 : l 9 = nI t9.length := ur_M_len h (by decide) h9
  have e10 : l 10 = nI t10.length := ur_M_len h (by decide) h10
  unfold wpX_isBetter
  dsimp only
  rw [e10]
  unfold ur_bet at k
  refine nm_r e9 (pk_eq t9.length t10.length (fun z => ?_) (fun z => pk_le t10.length t9.length (fun y => ?_) (fun y => ?_)))
  · rw [if_pos z] at k
    have G9 := ur_M_G h (r := 9) (by decide) h9 (a := 0) (x := t9) ⟨by omega, fun i _ => by rw [Nat.zero_add]⟩
    have G10 := ur_M_G h (r := 10) (by decide) h10 (a := 0) (x := t10) ⟨by omega, fun i _ => by rw [Nat.zero_add]⟩
    exact ⟨_, xl_bet t9.length q9 t9 t10 0 z G9 G10 (by omega) k⟩
  · rw [if_neg z, decide_eq_false (by omega)] at k; exact k
  · rw [if_neg z, decide_eq_true (by omega)] at k; exact k
/-- counts -/
theorem xa_counts {post : Int32 → SX → Prop} (b g : Nat) (hb : b < 6) (hg : g < 6) (hB : L0 b = some B) (hG : L0 g = some G) (hB4 : B.length ≤ 40) (hG4 : G.length ≤ 40) (h9l : t9.length ≤ 40) (bB : ur_BX b B fa ta) (bG : ur_BX g G fa ta) (h : ur_V 128 L0 m l t9 t10)
    (k : ∀ bh' m' l' fa' ta' wa', ur_BX b B fa' ta' → ur_BX g G fa' ta' → ur_V 128 L0 m' l' t9 t10 → post (ur_b (ur_okc B G t9)) (ur_x bh' lim cnt m' l' fa' ta' wa')) :
    wpX_counts post (ur_x bh lim cnt m l fa ta wa) (nI b) (nI g) := by
  obtain ⟨L, hM, h9, h10, ⟨t7, h7⟩, ⟨t8, h8⟩, hk⟩ := h
  unfold wpX_counts
  refine xa_split 9 hM (by decide) h9 (fun fa' ta' hB9 hkeep => ?_)
  have bB' := hkeep b B (by omega) bB
  have bG' := hkeep g G (by omega) bG
  refine xa_check 9 hM (by decide) h9 hB9 (fun wa' => ?_)
  unfold ur_okc at k
  refine br_c (fun z => ?_) (fun z => ?_)
  · rw [decide_eq_true z, Bool.true_and] at k
    refine xa_bd b 9 ⟨by omega, by omega, by omega, (hk b (by omega)).trans hB, bB', hB4⟩ ⟨by decide, by decide, by decide, h9, hB9, h9l⟩ (ur_W_i hM h7 h8) (fun m1 l1 t h1 => ?_)
    refine xa_st7 g (by omega) ((hk g (by omega)).trans hG) h1 ⟨ur_b_n _, k _ m1 l1 fa' ta' wa' bB' bG' ?_⟩
    obtain ⟨L2, hM2, g7, g8, hk2⟩ := h1
    exact ⟨L2, hM2, (hk2 9 (by decide) (by decide)).trans h9, (hk2 10 (by decide) (by decide)).trans h10, ⟨_, g7⟩, ⟨_, g8⟩, fun j hj => (hk2 j (by omega) (by omega)).trans (hk j hj)⟩
  · rw [decide_eq_false z, Bool.false_and] at k
    exact k _ m l fa' ta' wa' bB' bG' ⟨L, hM, h9, h10, ⟨t7, h7⟩, ⟨t8, h8⟩, hk⟩
theorem xl_try {post : SX → Prop} (b g cut np : Nat) (hb : b < 6) (hg : g < 6) (hB : L0 b = some B) (hG : L0 g = some G) (hB4 : B.length ≤ 40) (hG4 : G.length ≤ 40) (hcut : cut ≤ G.length) (hnp : np ≤ 100) (Q : List Int32 → Prop)
    (k : ∀ bh' m' l' fa' ta' wa' t9 t10, ur_BX b B fa' ta' → ur_BX g G fa' ta' → ur_V 128 L0 m' l' t9 t10 → ur_IB B G (ur_Qc G np Q cut) t10 → post (ur_x bh' lim cnt m' l' fa' ta' wa')) :
    ∀ (d i : Nat) (bh : Int32) (m l fa ta wa : Nat → Int32) (t9 t10 : List Int32), i + d = np → ur_BX b B fa ta → ur_BX g G fa ta → ur_V 128 L0 m l t9 t10 → ur_IB B G (ur_Qc G i Q cut) t10 →
    wX_tryCut_17 post (nI b) (nI g) (nI (g * 128 + cut)) (nI np) (nI (g * 128 + G.length)) (d + 1) (nI i) 128 6 7 8 9 10 bh lim cnt m l fa ta wa := by
  intro d
  induction d with
  | zero =>
    intro i bh m l fa ta wa t9 t10 hi bB bG h hI
    have e : i = np := by omega
    subst e
    exact br_t (nI_le (Nat.le_refl _) (by omega)) (k bh m l fa ta wa t9 t10 bB bG h hI)
  | succ d ih =>
    intro i bh m l fa ta wa t9 t10 hi bB bG h hI
    have hI2 := ur_IB_s (c := ur_cd G cut i) hI
    have hQ : ∀ c, (ur_Qc G i Q cut c ∨ c = ur_cd G cut i) ↔ ur_Qc G (i + 1) Q cut c := by
      intro c
      constructor
      · intro z
        rcases z with z | z
        · rcases z with z | ⟨j, hj, e⟩
          · exact Or.inl z
          · exact Or.inr ⟨j, by omega, e⟩
        · exact Or.inr ⟨i, by omega, z⟩
      · intro z
        rcases z with z | ⟨j, hj, e⟩
        · exact Or.inl (Or.inl z)
        · by_cases w : j = i
          · subst w; exact Or.inr e
          · exact Or.inl (Or.inr ⟨j, by omega, e⟩)
    have hI3 := ur_IB_c hI2 hQ
    have t10l := ur_bet_len hI.2.1
    have cl : (ur_cd G cut i).length = ur_pl i + (G.length - cut) := by unfold ur_cd; rw [List.length_append, ur_pre_len, ur_ex_len (Nat.le_refl _)]
    have pl3 : ur_pl i ≤ 300 := by unfold ur_pl; split <;> (try split) <;> omega
    obtain ⟨L, hM, h9, h10, h7, h8, hk⟩ := h
    have e10 : l 10 = nI t10.length := ur_M_len hM (by decide) h10
    refine br_f (nI_ge (by omega) (by omega)) (xa_pl i (by omega) ?_)
    refine nm_r (e' := nI (ur_cd G cut i).length) (by rw [nI_add, pk_sub (by omega), cl]; exact congrArg nI (by omega)) ?_
    rw [e10]
    refine pk_lt t10.length (ur_cd G cut i).length (fun z => nm_r (nI_1 _) ?_) (fun z => nm_e ?_)
    · have e : ur_try B G t10 (ur_cd G cut i) = t10 := by unfold ur_try; rw [if_neg (fun w => by rw [ur_bet_long z] at w; exact absurd w.1 (by decide))]
      rw [e] at hI3
      exact ih (i + 1) bh m l fa ta wa t9 t10 (by omega) bB bG ⟨L, hM, h9, h10, h7, h8, hk⟩ hI3
    · have hM1 := ur_M_nil (r := 9) hM
      refine xa_pre i (by omega) (by omega) hM1 ur_s_e (fun m1 l1 h1 => ?_)
      rw [ur_s_s] at h1
      refine xa_addRange 9 g cut G.length h1 (by decide) (by omega) (by omega) ur_s_e ((ur_s_n (by omega)).trans ((hk g (by omega)).trans hG)) (Nat.le_refl _) (by omega) (by rw [ur_pre_len]; omega) (fun m2 l2 h2 => ?_)
      rw [ur_s_s] at h2
      have V2 : ur_V 128 L0 m2 l2 (ur_cd G cut i) t10 := ur_V_9 h2 h10 h7 h8 hk
      have V2' := V2
      obtain ⟨L2, hM2, g9, g10, g7, g8, gk⟩ := V2'
      refine xa_bet hM2 g9 g10 (ur_br (fun y => nm_r (nI_1 _) ?_) (fun y => ?_))
      · have e : ur_try B G t10 (ur_cd G cut i) = t10 := by unfold ur_try; rw [if_neg (fun w => by rw [y] at w; exact absurd w.1 (by decide))]
        rw [e] at hI3
        exact ih (i + 1) bh m2 l2 fa ta wa _ t10 (by omega) bB bG V2 hI3
      · refine xa_counts b g hb hg hB hG hB4 hG4 (by omega) bB bG V2 (fun bh3 m3 l3 fa3 ta3 wa3 bB3 bG3 V3 => ?_)
        refine ur_br (fun w => nm_r (nI_1 _) ?_) (fun w => ?_)
        · have e : ur_try B G t10 (ur_cd G cut i) = t10 := by unfold ur_try; rw [if_neg (fun v => by rw [w] at v; exact absurd v.2 (by decide))]
          rw [e] at hI3
          exact ih (i + 1) bh3 m3 l3 fa3 ta3 wa3 _ t10 (by omega) bB3 bG3 V3 hI3
        · have e : ur_try B G t10 (ur_cd G cut i) = ur_cd G cut i := by unfold ur_try; rw [if_pos ⟨y, w⟩]
          rw [e] at hI3
          obtain ⟨L3, hM3, f9, f10, f7, f8, fk⟩ := V3
          refine xa_copy 9 10 hM3 (by decide) (by decide) (by decide) f9 (fun m4 l4 h4 => nm_r (nI_1 _) ?_)
          exact ih (i + 1) bh3 m4 l4 fa3 ta3 wa3 _ _ (by omega) bB3 bG3 (ur_V_10 h4 f9 f7 f8 fk) hI3
/-- tryCut -/
theorem xa_try {post : SX → Prop} (b g cut np : Nat) {p2 : Int32} (hp2 : p2 = nI (g * 128 + cut)) (hb : b < 6) (hg : g < 6) (hB : L0 b = some B) (hG : L0 g = some G) (hB4 : B.length ≤ 40) (hG4 : G.length ≤ 40) (hcut : cut ≤ G.length) (hnp : np ≤ 100) (Q : List Int32 → Prop)
    (bB : ur_BX b B fa ta) (bG : ur_BX g G fa ta) (h : ur_V 128 L0 m l t9 t10) (hI : ur_IB B G Q t10)
    (k : ∀ bh' m' l' fa' ta' wa' t9 t10, ur_BX b B fa' ta' → ur_BX g G fa' ta' → ur_V 128 L0 m' l' t9 t10 → ur_IB B G (ur_Qc G np Q cut) t10 → post (ur_x bh' lim cnt m' l' fa' ta' wa')) :
    wpX_tryCut post (ur_x bh lim cnt m l fa ta wa) (nI b) (nI g) p2 (nI np) := by
  subst hp2
  have h' := h
  obtain ⟨L, hM, h9, h10, h7, h8, hk⟩ := h'
  have hLg : L g = some G := (hk g (by omega)).trans hG
  unfold wpX_tryCut
  dsimp only
  rw [nI_clamp (show g < 2 ^ 31 by omega), ur_M_len hM (by omega) hLg]
  refine ⟨vp_in_nI (by omega) (by decide), nm_r (e' := nI (g * 128 + G.length)) (by rw [ur_m128, nI_add]) ⟨np + 1, ?_⟩⟩
  refine xl_try b g cut np hb hg hB hG hB4 hG4 hcut hnp Q k np 0 bh m l fa ta wa t9 t10 (by omega) bB bG h ?_
  refine ur_IB_c hI (fun c => ⟨fun z => Or.inl z, fun z => ?_⟩)
  rcases z with z | ⟨j, hj, _⟩
  · exact z
  · omega
end
end
section
/-! the component's search, II -/
def ur_QS (G : List Int32) (np : Nat) (S : Nat → Prop) : List Int32 → Prop := fun c => ∃ cut, S cut ∧ ∃ i, i < np ∧ c = ur_cd G cut i
theorem ur_QS_c {G : List Int32} {np cut : Nat} {S : Nat → Prop} (c : List Int32) : ur_Qc G np (ur_QS G np S) cut c ↔ ur_QS G np (fun x => S x ∨ x = cut) c := by
  constructor
  · intro z
    rcases z with ⟨x, hx, i, hi, e⟩ | ⟨i, hi, e⟩
    · exact ⟨x, Or.inl hx, i, hi, e⟩
    · exact ⟨cut, Or.inr rfl, i, hi, e⟩
  · intro ⟨x, hx, i, hi, e⟩
    rcases hx with hx | hx
    · exact Or.inl ⟨x, hx, i, hi, e⟩
    · subst hx; exact Or.inr ⟨i, hi, e⟩
theorem ur_QS_e {G : List Int32} {np : Nat} {S S' : Nat → Prop} (h : ∀ x, S x ↔ S' x) (c : List Int32) : ur_QS G np S c ↔ ur_QS G np S' c :=
  ⟨fun ⟨x, hx, q⟩ => ⟨x, (h x).mp hx, q⟩, fun ⟨x, hx, q⟩ => ⟨x, (h x).mpr hx, q⟩⟩
def ur_np (B : List Int32) : Nat := 4 + 2 * ur_n47 (ur_C B 4)
theorem ur_np_le {B : List Int32} (h : B.length ≤ 40) : ur_np B ≤ 100 := by
  have a := ur_n47_le (ur_C B 4)
  have b := ur_sum5 B
  unfold ur_np; omega
section
variable {bh lim cnt : Int32} {m l fa ta wa : Nat → Int32} {L0 L : Nat → Option (List Int32)} {t9 t10 T B G : List Int32}
theorem xa_tryS {post : SX → Prop} (b g cut : Nat) {p2 : Int32} (hp2 : p2 = nI (g * 128 + cut)) (hb : b < 6) (hg : g < 6) (hB : L0 b = some B) (hG : L0 g = some G) (hB4 : B.length ≤ 40) (hG4 : G.length ≤ 40) (hcut : cut ≤ G.length) (S S' : Nat → Prop)
    (bB : ur_BX b B fa ta) (bG : ur_BX g G fa ta) (h : ur_V 128 L0 m l t9 t10) (hI : ur_IB B G (ur_QS G (ur_np B) S) t10) (hS : ∀ x, (S x ∨ x = cut) ↔ S' x)
    (k : ∀ bh' m' l' fa' ta' wa' t9 t10, ur_BX b B fa' ta' → ur_BX g G fa' ta' → ur_V 128 L0 m' l' t9 t10 → ur_IB B G (ur_QS G (ur_np B) S') t10 → post (ur_x bh' lim cnt m' l' fa' ta' wa')) :
    wpX_tryCut post (ur_x bh lim cnt m l fa ta wa) (nI b) (nI g) p2 (nI (ur_np B)) :=
  xa_try b g cut (ur_np B) hp2 hb hg hB hG hB4 hG4 hcut (ur_np_le hB4) _ bB bG h hI (fun bh' m' l' fa' ta' wa' t9 t10 b1 b2 h' hI' => k bh' m' l' fa' ta' wa' t9 t10 b1 b2 h' (ur_IB_c hI' (fun c => (ur_QS_c c).trans (ur_QS_e hS c))))
theorem xl_s152 {post : SX → Prop} (b g : Nat) (hb : b < 6) (hg : g < 6) (hB : L0 b = some B) (hG : L0 g = some G) (hB4 : B.length ≤ 40) (hG4 : G.length ≤ 40) (hs : (ur_B G 0).isSome = true) (S0 : Nat → Prop)
    (k : ∀ bh' m' l' fa' ta' wa' t9 t10, ur_V 128 L0 m' l' t9 t10 → ur_IB B G (ur_QS G (ur_np B) (fun x => S0 x ∨ (ur_e G < x ∧ x ≤ ur_q G ∧ ur_at G (x - 1) = 47) ∨ x = ur_e G ∨ x = ur_sb G ∨ x = 0)) t10 → post (ur_x bh' lim cnt m' l' fa' ta' wa')) :
    ∀ (d i : Nat) (bh : Int32) (m l fa ta wa : Nat → Int32) (t9 t10 : List Int32), ur_e G + d = i → i ≤ ur_q G → ur_BX b B fa ta → ur_BX g G fa ta → ur_V 128 L0 m l t9 t10 → ur_IB B G (ur_QS G (ur_np B) (fun x => S0 x ∨ (i < x ∧ x ≤ ur_q G ∧ ur_at G (x - 1) = 47))) t10 →
    wX_searchRelative_152 post (nI b) (nI g) (nI (g * 8)) (nI (g * 128)) (nI (g * 128 + ur_e G)) (nI (ur_np B)) (d + 1) (nI (g * 128 + i - 1)) 128 6 7 8 9 10 bh lim cnt m l fa ta wa := by
  have hsb := ur_l0' hs
  have e1 := ur_e_lo G
  have e2 := ur_e_hi G
  have e3 := ur_q_le G
  have v0 : vp_in (nI (g * 8) + 0) 88 := ur_iv g 0 (by omega) (by decide)
  have i0 : (nI (g * 8) + 0).toNatClampNeg = g * 8 + 0 := ur_ic g 0 (by omega) (by decide)
  have hB0 : ur_B G 0 = some (0, ur_sb G - 1) := by rw [ur_B0, if_neg (by omega)]
  intro d
  induction d with
  | zero =>
    intro i bh m l fa ta wa t9 t10 hi hiq bB bG h hI
    have ei : i = ur_e G := by omega
    subst ei
    refine br_t (nI_lt (by omega) (by omega)) ?_
    refine xa_tryS b g (ur_e G) rfl hb hg hB hG hB4 hG4 (by omega) _ _ bB bG h hI (fun x => Iff.rfl) (fun bh1 m1 l1 fa1 ta1 wa1 t9 t10 b1 g1 h1 hI1 => ⟨v0, ?_⟩)
    refine xa_tryS b g (ur_sb G) ?_ hb hg hB hG hB4 hG4 (by omega) _ _ b1 g1 h1 hI1 (fun x => Iff.rfl) (fun bh2 m2 l2 fa2 ta2 wa2 t9 t10 b2 g2 h2 hI2 => ?_)
    · rw [i0, (g1 0 (by decide)).2, ur_tX_s hB0, nI_1]; exact congrArg nI (by omega)
    refine xa_tryS b g 0 rfl hb hg hB hG hB4 hG4 (by omega) _ _ b2 g2 h2 hI2 (fun x => Iff.rfl) (fun bh3 m3 l3 fa3 ta3 wa3 t9 t10 b3 g3 h3 hI3 => ?_)
    refine k bh3 m3 l3 fa3 ta3 wa3 t9 t10 h3 (ur_IB_c hI3 (ur_QS_e (fun x => ?_)))
    constructor
    · intro z
      rcases z with ((z | z) | z) | z
      · rcases z with z | z
        · exact Or.inl z
        · exact Or.inr (Or.inl z)
      · exact Or.inr (Or.inr (Or.inl z))
      · exact Or.inr (Or.inr (Or.inr (Or.inl z)))
      · exact Or.inr (Or.inr (Or.inr (Or.inr z)))
    · intro z
      rcases z with z | z | z | z | z
      · exact Or.inl (Or.inl (Or.inl (Or.inl z)))
      · exact Or.inl (Or.inl (Or.inl (Or.inr z)))
      · exact Or.inl (Or.inl (Or.inr z))
      · exact Or.inl (Or.inr z)
      · exact Or.inr z
  | succ d ih =>
    intro i bh m l fa ta wa t9 t10 hi hiq bB bG h hI
    have h' := h
    obtain ⟨L, hM, h9, h10, h7, h8, hk⟩ := h'
    have hLg : L g = some G := (hk g (by omega)).trans hG
    refine br_f (nI_nlt (by omega) (by omega)) ⟨vp_in_nI (by omega) (by decide), ?_⟩
    have em : m (g * 128 + i - 1) = ur_at G (i - 1) := by
      rw [show g * 128 + i - 1 = g * 128 + (i - 1) by omega]
      exact ur_M_at hM (by omega) hLg (by omega)
    rw [nI_clamp (show g * 128 + i - 1 < 2 ^ 31 by omega), em]
    have nx : nI (g * 128 + i - 1) + (-1) = nI (g * 128 + (i - 1) - 1) := by
      rw [show g * 128 + i - 1 = (g * 128 + (i - 1) - 1) + 1 by omega]; exact pk_m1 _
    refine br_c (fun z => ?_) (fun z => ?_)
    · refine xa_tryS b g i ?_ hb hg hB hG hB4 hG4 (by omega) _ (fun x => S0 x ∨ (i - 1 < x ∧ x ≤ ur_q G ∧ ur_at G (x - 1) = 47)) bB bG h hI (fun x => ?_) (fun bh1 m1 l1 fa1 ta1 wa1 t9 t10 b1 g1 h1 hI1 => nm_r nx ?_)
      · rw [nI_1]; exact congrArg nI (by omega)
      · constructor
        · intro w
          rcases w with (w | w) | w
          · exact Or.inl w
          · exact Or.inr ⟨by omega, w.2⟩
          · subst w; exact Or.inr ⟨by omega, hiq, z⟩
        · intro w
          rcases w with w | w
          · exact Or.inl (Or.inl w)
          · by_cases v : x = i
            · exact Or.inr v
            · exact Or.inl (Or.inr ⟨by omega, w.2⟩)
      · exact ih (i - 1) bh1 m1 l1 fa1 ta1 wa1 t9 t10 (by omega) (by omega) b1 g1 h1 hI1
    · refine nm_r nx (ih (i - 1) bh m l fa ta wa t9 t10 (by omega) (by omega) bB bG h (ur_IB_c hI (ur_QS_e (fun x => ?_))))
      constructor
      · intro w
        rcases w with w | w
        · exact Or.inl w
        · exact Or.inr ⟨by omega, w.2⟩
      · intro w
        rcases w with w | w
        · exact Or.inl w
        · by_cases v : x = i
          · subst v; exact absurd w.2.2 z
          · exact Or.inr ⟨by omega, w.2⟩
theorem xs_s82 {post : SX → Prop} (b g : Nat) (hb : b < 6) (hg : g < 6) (hB : L0 b = some B) (hG : L0 g = some G) (hB4 : B.length ≤ 40) (hG4 : G.length ≤ 40) (hs : (ur_B G 0).isSome = true) (bB : ur_BX b B fa ta) (bG : ur_BX g G fa ta) (h : ur_V 128 L0 m l t9 t10)
    (k : ∀ bh' m' l' fa' ta' wa' t9 t10, ur_V 128 L0 m' l' t9 t10 → ur_IB B G (ur_QS G (ur_np B) (ur_cut G)) t10 → post (ur_x bh' lim cnt m' l' fa' ta' wa')) :
    ∀ (x : List Int32) (i c : Nat), x = ur_ex B (ur_e B + i) (ur_q B) → ur_e B + i ≤ ur_q B → c + ur_n47 x = ur_n47 (ur_C B 4) →
    wX_searchRelative_82 post (nI b) (nI g) (nI (g * 8)) (nI (g * 128)) (nI (g * 128 + ur_e G)) (nI (g * 128 + ur_q G)) (nI (g * 128 + ur_f G)) 128 6 7 8 9 10 bh lim cnt m l fa ta wa (x.length + 1) (nI (4 + 2 * c)) (nI (b * 128 + (ur_e B + i)))
  | [], i, c, hx, hi, hc => by
    have hsb := ur_l0' hs
    have v4 : vp_in (nI (b * 8) + 4) 88 := ur_iv b 4 (by omega) (by decide)
    have i4 : (nI (b * 8) + 4).toNatClampNeg = b * 8 + 4 := ur_ic b 4 (by omega) (by decide)
    have q2 := ur_q_le B
    have e1 := ur_e_lo G
    have e2 := ur_e_hi G
    have e3 := ur_q_hi G
    have e4 := ur_f_hi G
    have ei : ur_e B + i = ur_q B := by
      rcases Nat.lt_or_ge (ur_e B + i) (ur_q B) with z | z
      · rw [ur_ex_cons z q2] at hx; cases hx
      · omega
    have enp : 4 + 2 * c = ur_np B := by unfold ur_np; rw [← hc]; rfl
    rw [enp]
    rw [wX_searchRelative_82]
    dsimp only
    rw [ur_m8, i4, (bB 4 (by decide)).2, ur_tX_s (ur_B4 B)]
    obtain ⟨L, hM, h9, h10, h7, h8, hk⟩ := h
    have hLg : L g = some G := (hk g (by omega)).trans hG
    refine ⟨v4, br_t (nI_le (by omega) (by omega)) ?_⟩
    refine xa_copy g 10 hM (by omega) (by decide) (by omega) hLg (fun m1 l1 h1 => ?_)
    have V1 : ur_V 128 L0 m1 l1 t9 G := ur_V_10 h1 h9 h7 h8 hk
    have I0 : ur_IB B G (ur_QS G (ur_np B) (fun _ => False)) G := ur_IB_c (ur_IB_0 B G) (fun c => ⟨fun z => z.elim, fun ⟨_, z, _⟩ => z⟩)
    refine xa_tryS b g (ur_f G) rfl hb hg hB hG hB4 hG4 (by omega) _ (fun x => x = ur_f G) bB bG V1 I0 (fun x => ⟨fun z => z.elim False.elim id, fun z => Or.inr z⟩) (fun bh2 m2 l2 fa2 ta2 wa2 t9 t10 b2 g2 h2 hI2 => ?_)
    refine xa_tryS b g (ur_q G) rfl hb hg hB hG hB4 hG4 (by omega) _ (fun x => x = ur_f G ∨ x = ur_q G) b2 g2 h2 hI2 (fun x => Iff.rfl) (fun bh3 m3 l3 fa3 ta3 wa3 t9 t10 b3 g3 h3 hI3 => ?_)
    refine nm_r (e' := nI (g * 128 + ur_q G - 1)) (ur_s1 (by omega)) ⟨(ur_q G - ur_e G) + 1, ?_⟩
    refine xl_s152 b g hb hg hB hG hB4 hG4 hs (fun x => x = ur_f G ∨ x = ur_q G) (fun bh' m' l' fa' ta' wa' t9 t10 h' hI' => k bh' m' l' fa' ta' wa' t9 t10 h' (ur_IB_c hI' (ur_QS_e (fun x => ?_)))) (ur_q G - ur_e G) (ur_q G) bh3 m3 l3 fa3 ta3 wa3 t9 t10 (by omega) (Nat.le_refl _) b3 g3 h3 (ur_IB_c hI3 (ur_QS_e (fun x => ⟨fun z => Or.inl z, fun z => z.elim id (fun w => by omega)⟩)))
    unfold ur_cut
    constructor
    · intro z
      rcases z with (z | z) | z | z | z | z
      · exact Or.inl z
      · exact Or.inr (Or.inl z)
      · exact Or.inr (Or.inr (Or.inr (Or.inr (Or.inr z))))
      · exact Or.inr (Or.inr (Or.inl z))
      · exact Or.inr (Or.inr (Or.inr (Or.inl z)))
      · exact Or.inr (Or.inr (Or.inr (Or.inr (Or.inl z))))
    · intro z
      rcases z with z | z | z | z | z | z
      · exact Or.inl (Or.inl z)
      · exact Or.inl (Or.inr z)
      · exact Or.inr (Or.inr (Or.inl z))
      · exact Or.inr (Or.inr (Or.inr (Or.inl z)))
      · exact Or.inr (Or.inr (Or.inr (Or.inr z)))
      · exact Or.inr (Or.inl z)
  | y :: x, i, c, hx, hi, hc => by
    have v4 : vp_in (nI (b * 8) + 4) 88 := ur_iv b 4 (by omega) (by decide)
    have i4 : (nI (b * 8) + 4).toNatClampNeg = b * 8 + 4 := ur_ic b 4 (by omega) (by decide)
    have q2 := ur_q_le B
    have hlt : ur_e B + i < ur_q B := by
      rcases Nat.lt_or_ge (ur_e B + i) (ur_q B) with z | z
      · exact z
      · rw [ur_ex_nil z] at hx; cases hx
    have hx' := hx
    rw [ur_ex_cons hlt q2] at hx'
    have hc1 : y = ur_at B (ur_e B + i) := (List.cons.inj hx').1
    have hx1 : x = ur_ex B (ur_e B + (i + 1)) (ur_q B) := (List.cons.inj hx').2
    have em : m (b * 128 + (ur_e B + i)) = y := by
      obtain ⟨L, hM, h9, h10, h7, h8, hk⟩ := h
      rw [hc1]
      exact ur_M_at hM (by omega) ((hk b (by omega)).trans hB) (by omega)
    rw [ur_n47] at hc
    have ih := xs_s82 b g hb hg hB hG hB4 hG4 hs bB bG h k x (i + 1)
    rw [wX_searchRelative_82]
    dsimp only
    rw [ur_m8, i4, (bB 4 (by decide)).2, ur_tX_s (ur_B4 B)]
    refine ⟨v4, br_f (nI_ge (by omega) (by omega)) ⟨vp_in_nI (by omega) (by decide), ?_⟩⟩
    rw [nI_clamp (show b * 128 + (ur_e B + i) < 2 ^ 31 by omega), em]
    refine br_c (fun z => ?_) (fun z => ?_)
    · rw [if_pos z] at hc
      exact nm_r (e' := nI (4 + 2 * (c + 1))) (ur_p2 _) (nm_r (nI_1 _) (ih (c + 1) hx1 (by omega) (by omega)))
    · rw [if_neg z] at hc
      exact nm_r (nI_1 _) (ih c hx1 (by omega) (by omega))
/-- searchRelative -/
theorem xa_search {post : SX → Prop} (b g : Nat) (hb : b < 6) (hg : g < 6) (hB : L0 b = some B) (hG : L0 g = some G) (hB4 : B.length ≤ 40) (hG4 : G.length ≤ 40) (hs : (ur_B G 0).isSome = true) (bB : ur_BX b B fa ta) (bG : ur_BX g G fa ta) (h : ur_V 128 L0 m l t9 t10)
    (k : ∀ bh' m' l' fa' ta' wa' t9 t10, ur_V 128 L0 m' l' t9 t10 → ur_IB B G (ur_QS G (ur_np B) (ur_cut G)) t10 → post (ur_x bh' lim cnt m' l' fa' ta' wa')) :
    wpX_searchRelative post (ur_x bh lim cnt m l fa ta wa) (nI b) (nI g) := by
  have v4 : vp_in (nI (g * 8) + 4) 88 := ur_iv g 4 (by omega) (by decide)
  have i4 : (nI (g * 8) + 4).toNatClampNeg = g * 8 + 4 := ur_ic g 4 (by omega) (by decide)
  have v6 : vp_in (nI (g * 8) + 6) 88 := ur_iv g 6 (by omega) (by decide)
  have i6 : (nI (g * 8) + 6).toNatClampNeg = g * 8 + 6 := ur_ic g 6 (by omega) (by decide)
  have vb : vp_in (nI (b * 8) + 4) 88 := ur_iv b 4 (by omega) (by decide)
  have ib : (nI (b * 8) + 4).toNatClampNeg = b * 8 + 4 := ur_ic b 4 (by omega) (by decide)
  have h' := h
  obtain ⟨L, hM, h9, h10, h7, h8, hk⟩ := h'
  have hLg : L g = some G := (hk g (by omega)).trans hG
  have q1 := ur_e_hi B
  have hCB : ur_C B 4 = ur_ex B (ur_e B) (ur_q B) := ur_C_s (ur_B4 B)
  have go : wX_searchRelative_66 post (nI b) (nI g) (nI (g * 8)) (nI (g * 128)) (nI (g * 128 + ur_e G)) (nI (g * 128 + ur_q G)) (nI (g * 128 + ur_f G)) 128 6 7 8 9 10 bh lim cnt m l fa ta wa := by
    unfold wX_searchRelative_66
    rw [ur_m8, ib, (bB 4 (by decide)).1, ur_fX_s (ur_B4 B)]
    refine ⟨vb, nm_e ⟨_, xs_s82 b g hb hg hB hG hB4 hG4 hs bB bG h k (ur_ex B (ur_e B + 0) (ur_q B)) 0 0 rfl (by omega) ?_⟩⟩
    rw [hCB, Nat.zero_add]; rfl
  unfold wpX_searchRelative
  refine nm_r (ur_m8 g) (nm_r (ur_m128 g) ?_)
  rw [i4, i6, (bG 4 (by decide)).1, (bG 4 (by decide)).2, ur_fX_s (ur_B4 G), ur_tX_s (ur_B4 G), nI_clamp (show g < 2 ^ 31 by omega), ur_M_len hM (by omega) hLg]
  refine ⟨v4, nm_e ⟨v4, nm_e ⟨vp_in_nI (by omega) (by decide), nm_r (nI_add _ _) ?_⟩⟩⟩
  refine xa_has g 6 (by omega) (by decide) bG (by omega) ?_
  have f1 := ur_f_hi G
  by_cases z : ur_f G = G.length
  · have hB6 : ur_B G 6 = none := by rw [ur_B6, if_pos z]
    rw [hB6]
    rw [z] at go
    exact br_t rfl go
  · have hB6 : ur_B G 6 = some (ur_f G + 1, G.length) := by rw [ur_B6, if_neg z]
    rw [hB6]
    refine br_f (show ¬ ur_b true = 0 by decide) ⟨v6, nm_r (e' := nI (g * 128 + ur_f G)) ?_ go⟩
    rw [(bG 6 (by decide)).1, ur_fX_s hB6, ur_s1 (by omega)]; exact congrArg nI (by omega)
end
end
section
/-! the reference's search -/
def ur_St (W : Nat) (L0 : Nat → Option (List Int32)) (m l : Nat → Int32) : Prop := ∃ L, ur_M W L m l ∧ (∀ j, j < 7 → L j = L0 j) ∧ ∀ j, 7 ≤ j → j < 11 → ∃ t, L j = some t
theorem ur_V_St {W : Nat} {L0 : Nat → Option (List Int32)} {m l : Nat → Int32} {t9 t10 : List Int32} (h : ur_V W L0 m l t9 t10) : ur_St W L0 m l := by
  obtain ⟨L, hM, h9, h10, h7, h8, hk⟩ := h
  refine ⟨L, hM, hk, fun j a b => ?_⟩
  have : j = 7 ∨ j = 8 ∨ j = 9 ∨ j = 10 := by omega
  rcases this with rfl | rfl | rfl | rfl
  · exact h7
  · exact h8
  · exact ⟨_, h9⟩
  · exact ⟨_, h10⟩
theorem ur_St_V {W : Nat} {L0 : Nat → Option (List Int32)} {m l : Nat → Int32} (h : ur_St W L0 m l) : ∃ t9 t10, ur_V W L0 m l t9 t10 := by
  obtain ⟨L, hM, hk, hs⟩ := h
  obtain ⟨t9, h9⟩ := hs 9 (by decide) (by decide)
  obtain ⟨t10, h10⟩ := hs 10 (by decide) (by decide)
  exact ⟨t9, t10, L, hM, h9, h10, hs 7 (by decide) (by decide), hs 8 (by decide) (by decide), hk⟩
theorem ur_St_put {W s : Nat} {L0 L : Nat → Option (List Int32)} {m l : Nat → Int32} {o : Option (List Int32)} (hs : s < 7) (h : ur_M W (ur_s L s o) m l) (hk : ∀ j, j < 7 → L j = L0 j) (hx : ∀ j, 7 ≤ j → j < 11 → ∃ t, L j = some t) : ur_St W (ur_s L0 s o) m l := by
  refine ⟨_, h, fun j hj => ?_, fun j a b => ?_⟩
  · by_cases e : j = s
    · subst e; rw [ur_s_e, ur_s_e]
    · rw [ur_s_n e, ur_s_n e]; exact hk j hj
  · rw [ur_s_n (by omega)]; exact hx j a b
theorem ur_ds_3 (j : Nat) : ur_ds (3 * (j + 1)) = ur_ds (3 * j) ++ [46] ++ [46] ++ [47] := by
  have e : 3 * (j + 1) = 3 * j + 1 + 1 + 1 := by omega
  rw [e, ur_ds, ur_ds, ur_ds]
  rw [if_neg (show ¬ (3 * j) % 3 = 2 by omega), if_neg (show ¬ (3 * j + 1) % 3 = 2 by omega), if_pos (show (3 * j + 1 + 1) % 3 = 2 by omega)]
theorem ur_ds_take (n : Nat) : (ur_ds (n + 1)).take n = ur_ds n := by
  rw [ur_ds]
  have := ur_ds_len n
  rw [List.take_append_of_le_length (by omega), List.take_of_length_le (by omega)]
section
variable {lim cnt : Int32} {yc yn ys ye : Nat → Int32} {L0 L : Nat → Option (List Int32)} {t9 t10 T B G : List Int32}
theorem yl_pre {post : SY → Prop} (k n : Nat) (hk : 4 ≤ k) (hk2 : k < 150) (hn : n = (k - 2) / 2) : ∀ (d j : Nat) (yc yn : Nat → Int32) (L : Nat → Option (List Int32)), j + d = n → ur_M 256 L yc yn → L 9 = some (ur_ds (3 * j)) →
    (∀ c' n', ur_M 256 (ur_s L 9 (some (ur_pre k))) c' n' → post (ur_y lim cnt c' n' ys ye)) →
    wY_prefix_54 post (nI k) (d + 1) (nI j) lim cnt yc yn ys ye := by
  have e1 : (nI k - 2) / 2 = nI n := by
    have a : nI k - 2 = nI (k - 2) := pk_sub (b := 2) (by omega)
    have b : nI (k - 2) / 2 = nI ((k - 2) / 2) := pk_div (d := 2) (by omega) (by decide) (by decide)
    rw [a, b, hn]
  have epl : ur_pl k = 3 * n - k % 2 := by unfold ur_pl; rw [if_neg (by omega), if_neg (by omega), hn]; omega
  have epre : ur_pre k = ur_ds (ur_pl k) := by unfold ur_pre; rw [if_neg (by omega), if_neg (by omega), if_neg (by omega), if_neg (by omega)]
  intro d
  induction d with
  | zero =>
    intro j yc yn L hj h h9 kk
    have ej : j = n := by omega
    subst ej
    rw [wY_prefix_54]
    dsimp only
    rw [e1]
    have e2 : nI k - nI k / 2 * 2 = nI (k % 2) := pk_rem (d := 2) (by omega) (by decide) (by decide)
    rw [e2]
    refine ⟨by decide, br_t (nI_le (Nat.le_refl _) (by omega)) (br_f (nI_nlt (b := 4) hk (by omega)) ⟨by decide, pk_eq (k % 2) 1 (fun z => ?_) (fun z => ?_)⟩)⟩
    · obtain ⟨v, hv⟩ : ∃ v, 3 * j = v + 1 := ⟨3 * j - 1, by omega⟩
      have dl := ur_ds_len (3 * j)
      have e9 : yn 9 = nI (3 * j) := by rw [ur_M_len h (r := 9) (by decide) h9, dl]
      have hc := ur_M_cut h (r := 9) (by decide) h9 (k := v) (by omega)
      refine nm_r (e' := upd yn 9 (nI v)) (by rw [e9, hv]; exact congrArg (upd yn 9) (nI_pred v)) (kk _ _ ?_)
      rw [epre, epl, show 3 * j - k % 2 = v by omega]
      rw [hv, ur_ds_take] at hc
      exact hc
    · refine kk yc yn ?_
      rw [epre, epl, show 3 * j - k % 2 = 3 * j by omega, ur_s_id h9]
      exact h
  | succ d ih =>
    intro j yc yn L hj h h9 kk
    have dl := ur_ds_len (3 * j)
    rw [wY_prefix_54]
    dsimp only
    rw [e1]
    refine ⟨by decide, br_f (nI_ge (by omega) (by omega)) ?_⟩
    refine ya_add 9 h (by decide) h9 (by omega) (fun c1 n1 h1 => ?_)
    refine ya_add 9 h1 (by decide) ur_s_e (by simp only [List.length_append, List.length_singleton]; omega) (fun c2 n2 h2 => ?_)
    rw [ur_s_s] at h2
    refine ya_add 9 h2 (by decide) ur_s_e (by simp only [List.length_append, List.length_singleton]; omega) (fun c3 n3 h3 => nm_r (nI_1 _) ?_)
    rw [ur_s_s] at h3
    refine ih (j + 1) c3 n3 _ (by omega) h3 ?_ (by rw [ur_s_s]; exact kk)
    rw [ur_s_e, ur_ds_3]
theorem ya_pre {post : SY → Prop} (k : Nat) (hk : k < 100) (h : ur_M 256 L yc yn)
    (kk : ∀ c' n', ur_M 256 (ur_s L 9 (some (ur_pre k))) c' n' → post (ur_y lim cnt c' n' ys ye)) : wpY_prefix post (ur_y lim cnt yc yn ys ye) (nI k) := by
  have h0 := ur_M_nil (r := 9) h
  unfold wpY_prefix
  refine nm_e ?_
  by_cases z : 4 ≤ k
  · refine pk_eq k 3 (fun y => by omega) (fun _ => ?_)
    unfold wY_prefix_21
    refine pk_lt k 1 (fun y => by omega) (fun _ => pk_lt 3 k (fun _ => ?_) (fun y => by omega))
    unfold wY_prefix_39
    refine pk_eq k 2 (fun y => by omega) (fun _ => ⟨_, yl_pre k ((k - 2) / 2) z (by omega) rfl ((k - 2) / 2) 0 _ _ _ (by omega) h0 ur_s_e ?_⟩)
    rw [ur_s_s]; exact kk
  · have ex : ∀ (c n : Nat → Int32) (j : Nat), j < 4 → post (ur_y lim cnt c n ys ye) → ∃ q, wY_prefix_54 post (nI j) q 0 lim cnt c n ys ye := by
      intro c n j hj p
      refine ⟨1, ?_⟩
      rw [wY_prefix_54]
      dsimp only
      refine ⟨by decide, br_t ?_ (br_t (nI_lt (b := 4) hj (by decide)) p)⟩
      have : j = 0 ∨ j = 1 ∨ j = 2 ∨ j = 3 := by omega
      rcases this with rfl | rfl | rfl | rfl <;> decide
    have : k = 0 ∨ k = 1 ∨ k = 2 ∨ k = 3 := by omega
    rcases this with rfl | rfl | rfl | rfl
    · refine br_f (by decide) ?_
      unfold wY_prefix_21
      refine br_t (by decide) ?_
      unfold wY_prefix_39
      exact br_f (by decide) (ex _ _ 0 (by decide) (kk _ _ h0))
    · refine br_f (by decide) ?_
      unfold wY_prefix_21
      refine br_f (by decide) (br_f (by decide) (ya_add 9 h0 (by decide) ur_s_e (by decide) (fun c1 n1 h1 => ?_)))
      rw [ur_s_s] at h1
      unfold wY_prefix_39
      exact br_f (by decide) (ex _ _ 1 (by decide) (kk _ _ h1))
    · refine br_f (by decide) ?_
      unfold wY_prefix_21
      refine br_f (by decide) (br_f (by decide) (ya_add 9 h0 (by decide) ur_s_e (by decide) (fun c1 n1 h1 => ?_)))
      rw [ur_s_s] at h1
      unfold wY_prefix_39
      refine br_t (by decide) (ya_add 9 h1 (by decide) ur_s_e (by simp) (fun c2 n2 h2 => ?_))
      rw [ur_s_s] at h2
      exact ex _ _ 2 (by decide) (kk _ _ h2)
    · refine br_t (by decide) (ya_add 9 h0 (by decide) ur_s_e (by decide) (fun c1 n1 h1 => ?_))
      rw [ur_s_s] at h1
      unfold wY_prefix_21
      refine br_f (by decide) (br_f (by decide) (ya_add 9 h1 (by decide) ur_s_e (by simp) (fun c2 n2 h2 => ?_)))
      rw [ur_s_s] at h2
      unfold wY_prefix_39
      exact br_f (by decide) (ex _ _ 3 (by decide) (kk _ _ h2))
theorem yl_bet {post : Int32 → Prop} (h : ur_M 256 L yc yn) (h9 : L 9 = some t9) (h10 : L 10 = some t10) : ∀ (x y : List Int32) (i : Nat), x.length = y.length → ur_G t9.length (ur_at t9) i x → ur_G t10.length (ur_at t10) i y → i + x.length = t9.length → post (ur_b (ur_lex x y)) →
    wY_better_42 post lim cnt yc yn ys ye (x.length + 1) (nI i)
  | [], [], i, _, _, _, hi, k => by
    have q9 := ur_M_le h (r := 9) (by decide) h9
    have e9 : yn 9 = nI t9.length := ur_M_len h (by decide) h9
    rw [wY_better_42]
    dsimp only
    rw [e9]
    exact br_t (nI_le (by simp at hi; omega) (by simp at hi; omega)) k
  | [], _ :: _, i, h, _, _, _, _ => absurd h (by simp)
  | _ :: _, [], i, h, _, _, _, _ => absurd h (by simp)
  | c :: x, d :: y, i, hl, hG, hH, hi, k => by
    have q9 := ur_M_le h (r := 9) (by decide) h9
    have e9 : yn 9 = nI t9.length := ur_M_len h (by decide) h9
    obtain ⟨g1, g2, g3⟩ := ur_G_cons hG
    obtain ⟨f1, f2, f3⟩ := ur_G_cons hH
    simp only [List.length_cons] at hl hi
    rw [wY_better_42]
    dsimp only
    rw [e9]
    rw [ur_lex] at k
    refine br_f (nI_ge (by omega) (by omega)) (ya_at 9 i h (by decide) h9 (by omega) (ya_at 10 i h (by decide) h10 (by omega) ?_))
    rw [g2, f2]
    refine br_c (fun z => nm_r (nI_1 _) ?_) (fun z => ya_at 9 i h (by decide) h9 (by omega) (ya_at 10 i h (by decide) h10 (by omega) ?_))
    · rw [if_pos z] at k
      exact yl_bet h h9 h10 x y (i + 1) (by omega) g3 f3 (by omega) k
    · rw [g2, f2]
      refine br_c (fun y => ?_) (fun y => ?_)
      · rw [if_neg z, decide_eq_true y] at k; exact k
      · rw [if_neg z, decide_eq_false y] at k; exact k
theorem ya_bet {post : Int32 → Prop} (h : ur_M 256 L yc yn) (h9 : L 9 = some t9) (h10 : L 10 = some t10) (k : post (ur_b (ur_bet t9 t10))) : wpY_better post (ur_y lim cnt yc yn ys ye) := by
  have q9 := ur_M_le h (r := 9) (by decide) h9
  have q10 := ur_M_le h (r := 10) (by decide) h10
  have e9 : yn 9 = nI t9.length := ur_M_len h (by decide) h9
  have e10 : yn 10 = nI t10.length := ur_M_len h (by decide) h10
  unfold wpY_better
  dsimp only
  rw [e9, e10]
  unfold ur_bet at k
  refine pk_eq t9.length t10.length (fun z => ?_) (fun z => pk_le t10.length t9.length (fun y => ?_) (fun y => ?_))
  · rw [if_pos z] at k
    exact ⟨_, yl_bet h h9 h10 t9 t10 0 z ⟨by omega, fun i _ => by rw [Nat.zero_add]⟩ ⟨by omega, fun i _ => by rw [Nat.zero_add]⟩ (by omega) k⟩
  · rw [if_neg z, decide_eq_false (by omega)] at k; exact k
  · rw [if_neg z, decide_eq_true (by omega)] at k; exact k
theorem yl_270 {post : Int32 → SY → Prop} {J : Int32 → Int32 → Int32 → (Nat → Int32) → (Nat → Int32) → (Nat → Int32) → (Nat → Int32) → Prop} {x3 x11 x12 x13 x15 : Int32} (b g cut np li : Nat) (hb : b < 6) (hg : g < 6) (hB : L0 b = some B) (hG : L0 g = some G) (hB4 : B.length ≤ 40) (hli : G.length ≤ li) (hli4 : li ≤ 40) (hcut : cut ≤ G.length) (hnp : np ≤ 84) (Q : List Int32 → Prop)
    (k : ∀ c' n' s' e' t9 t10, ur_V 256 L0 c' n' t9 t10 → ur_IB B G (ur_Qc G np Q cut) t10 → J (nI (cut + 1)) (nI li) cnt c' n' s' e') :
    ∀ (d i : Nat) (yc yn ys ye : Nat → Int32) (t9 t10 : List Int32), i + d = np → ur_V 256 L0 yc yn t9 t10 → ur_IB B G (ur_Qc G i Q cut) t10 →
    wY_relativise_270 post J (nI b) (nI g) x3 (nI G.length) (nI np) x11 x12 x13 x15 (nI cut) (d + 1) (nI i) (nI li) cnt yc yn ys ye := by
  intro d
  induction d with
  | zero =>
    intro i yc yn ys ye t9 t10 hi h hI
    have e : i = np := by omega
    subst e
    exact br_t (nI_le (Nat.le_refl _) (by omega)) (nm_r (nI_1 _) (k yc yn ys ye t9 t10 h hI))
  | succ d ih =>
    intro i yc yn ys ye t9 t10 hi h hI
    have hI2 := ur_IB_s (c := ur_cd G cut i) hI
    have hQ : ∀ c, (ur_Qc G i Q cut c ∨ c = ur_cd G cut i) ↔ ur_Qc G (i + 1) Q cut c := by
      intro c
      constructor
      · intro z
        rcases z with z | z
        · rcases z with z | ⟨j, hj, e⟩
          · exact Or.inl z
          · exact Or.inr ⟨j, by omega, e⟩
        · exact Or.inr ⟨i, by omega, z⟩
      · intro z
        rcases z with z | ⟨j, hj, e⟩
        · exact Or.inl (Or.inl z)
        · by_cases w : j = i
          · subst w; exact Or.inr e
          · exact Or.inl (Or.inr ⟨j, by omega, e⟩)
    have hI3 := ur_IB_c hI2 hQ
    have t10l := ur_bet_len hI.2.1
    have cl : (ur_cd G cut i).length = ur_pl i + (G.length - cut) := by unfold ur_cd; rw [List.length_append, ur_pre_len, ur_ex_len (Nat.le_refl _)]
    have pl3 : ur_pl i ≤ 130 := by unfold ur_pl; split <;> (try split) <;> omega
    obtain ⟨L, hM, h9, h10, h7, h8, hk⟩ := h
    have skip : ∀ c' n' s' e' t9', ur_V 256 L0 c' n' t9' t10 → ur_try B G t10 (ur_cd G cut i) = t10 → wY_relativise_270 post J (nI b) (nI g) x3 (nI G.length) (nI np) x11 x12 x13 x15 (nI cut) (d + 1) (nI (i + 1)) (nI li) cnt c' n' s' e' := by
      intro c' n' s' e' t9' V' e
      rw [e] at hI3
      exact ih (i + 1) c' n' s' e' t9' t10 (by omega) V' hI3
    refine br_f (nI_ge (by omega) (by omega)) (ya_pre i (by omega) hM (fun c1 n1 h1 => ?_))
    refine ya_append 9 g cut G.length h1 (by decide) (by omega) (by omega) ur_s_e ((ur_s_n (by omega)).trans ((hk g (by omega)).trans hG)) (Nat.le_refl _) (by omega) (by rw [ur_pre_len]; omega) (fun c2 n2 h2 => ?_)
    rw [ur_s_s] at h2
    have V2 : ur_V 256 L0 c2 n2 (ur_cd G cut i) t10 := ur_V_9 h2 h10 h7 h8 hk
    have V2' := V2
    obtain ⟨L2, hM2, g9, g10, ⟨t7, g7⟩, ⟨t8, g8⟩, gk⟩ := V2'
    have e9 : n2 9 = nI (ur_cd G cut i).length := ur_M_len hM2 (by decide) g9
    show ((nI li < n2 9 → _) ∧ (¬ nI li < n2 9 → _))
    rw [e9]
    refine pk_lt li (ur_cd G cut i).length (fun z => nm_r (nI_1 _) (skip c2 n2 ys ye _ V2 ?_)) (fun z => ?_)
    · unfold ur_try; rw [if_neg (fun w => by rw [ur_bet_long (by omega)] at w; exact absurd w.1 (by decide))]
    refine ya_bet hM2 g9 g10 (ur_br (fun y => nm_r (nI_1 _) (skip c2 n2 ys ye _ V2 ?_)) (fun y => ?_))
    · unfold ur_try; rw [if_neg (fun w => by rw [y] at w; exact absurd w.1 (by decide))]
    refine ya_judge 9 hM2 (by decide) g9 (br_c (fun w => ?_) (fun w => nm_r (nI_1 _) (skip c2 n2 ys ye _ V2 ?_)))
    · refine ya_bd b 9 ⟨by omega, by omega, by omega, (gk b (by omega)).trans hB, hB4⟩ ⟨by decide, by decide, by decide, g9, by omega⟩ (ur_W_i hM2 g7 g8) (fun c3 n3 s3 e3 t h3 => ?_)
      obtain ⟨L3, hM3, f7, f8, hk3⟩ := h3
      have f9 : L3 9 = some (ur_cd G cut i) := (hk3 9 (by decide) (by decide)).trans g9
      have f10 : L3 10 = some t10 := (hk3 10 (by decide) (by decide)).trans g10
      have fk : ∀ j, j < 7 → L3 j = L0 j := fun j hj => (hk3 j (by omega) (by omega)).trans (gk j hj)
      have V3 : ur_V 256 L0 c3 n3 (ur_cd G cut i) t10 := ⟨L3, hM3, f9, f10, ⟨_, f7⟩, ⟨_, f8⟩, fk⟩
      have e7 : n3 7 = nI (ur_bd B (ur_cd G cut i)).length := ur_M_len hM3 (by decide) f7
      show wpY_same _ _ 7 0 (n3 7) _ _ _
      rw [e7]
      refine ya_same 7 g 0 0 (ur_bd B (ur_cd G cut i)) G hM3 (by decide) (by omega) f7 ((fk g (by omega)).trans hG) ⟨by omega, fun i _ => by rw [Nat.zero_add]⟩ ⟨by omega, fun i _ => by rw [Nat.zero_add]⟩ rfl (by rw [Nat.zero_add]) rfl (by rw [Nat.zero_add]) (ur_br (fun v => nm_r (nI_1 _) (skip c3 n3 s3 e3 _ V3 ?_)) (fun v => ?_))
      · unfold ur_try ur_okc; rw [if_neg (fun q => by rw [v, Bool.and_false] at q; exact absurd q.2 (by decide))]
      · have e : ur_try B G t10 (ur_cd G cut i) = ur_cd G cut i := by unfold ur_try ur_okc; rw [if_pos ⟨y, by rw [decide_eq_true w, v]; rfl⟩]
        rw [e] at hI3
        refine ya_copy 9 10 hM3 (by decide) (by decide) (by decide) f9 (fun c4 n4 h4 => nm_r (nI_1 _) ?_)
        exact ih (i + 1) c4 n4 s3 e3 _ _ (by omega) (ur_V_10 h4 f9 ⟨_, f7⟩ ⟨_, f8⟩ fk) hI3
    · unfold ur_try ur_okc; rw [if_neg (fun q => by rw [decide_eq_false w, Bool.false_and] at q; exact absurd q.2 (by decide))]
end
end
section
/-! the reference's search, II -/
theorem ur_np_le2 {B : List Int32} (h : B.length ≤ 40) : ur_np B ≤ 84 := by
  have a := ur_n47_le (ur_C B 4)
  have b := ur_sum5 B
  unfold ur_np; omega
theorem ur_cut_le {G : List Int32} {c : Nat} (h : ur_cut G c) : c ≤ G.length := by
  have e1 := ur_e_hi G
  have e2 := ur_q_hi G
  have e3 := ur_f_hi G
  have e4 := ur_sb_le G
  rcases h with h | h | h | h | h | h <;> omega
section
variable {lim cnt : Int32} {yc yn ys ye : Nat → Int32} {L0 L : Nat → Option (List Int32)} {t9 t10 T B G : List Int32}
theorem yl_184 {post : Int32 → SY → Prop} (b g to li : Nat) (hb : b < 6) (hg : g < 6) (hto : to < 6) (hB : L0 b = some B) (hG : L0 g = some G) (hB4 : B.length ≤ 40) (hli : G.length ≤ li) (hli4 : li ≤ 40)
    (k : ∀ c' n' s' e' t10, ur_IB B G (ur_QS G (ur_np B) (ur_cut G)) t10 → ur_St 256 (ur_s L0 to (some t10)) c' n' → post 0 (ur_y (nI li) cnt c' n' s' e')) :
    ∀ (d cut : Nat) (yc yn ys ye : Nat → Int32) (t9 t10 : List Int32), cut + d = G.length + 1 → ur_V 256 L0 yc yn t9 t10 → ur_IB B G (ur_QS G (ur_np B) (fun x => ur_cut G x ∧ x < cut)) t10 →
    wY_relativise_184 post (nI b) (nI g) (nI to) (nI G.length) (nI (ur_np B)) (nI (ur_e G)) (nI (ur_q G)) (nI (ur_sb G)) (nI (ur_f G)) (d + 1) (nI cut) (nI li) cnt yc yn ys ye := by
  have e1 := ur_e_hi G
  have e2 := ur_q_hi G
  have e3 := ur_f_hi G
  have e4 := ur_sb_le G
  intro d
  induction d with
  | zero =>
    intro cut yc yn ys ye t9 t10 hc h hI
    obtain ⟨L, hM, h9, h10, h7, h8, hk⟩ := h
    refine br_t (nI_lt (by omega) (by omega)) (ya_copy 10 to hM (by decide) (by omega) (by omega) h10 (fun c1 n1 h1 => ?_))
    refine k c1 n1 ys ye t10 (ur_IB_c hI (ur_QS_e (fun x => ⟨fun z => z.1, fun z => ⟨z, by have := ur_cut_le z; omega⟩⟩))) (ur_St_put (by omega) h1 hk ?_)
    obtain ⟨L', hM', hk', hs'⟩ := ur_V_St ⟨L, hM, h9, h10, h7, h8, hk⟩
    intro j a b
    have : j = 7 ∨ j = 8 ∨ j = 9 ∨ j = 10 := by omega
    rcases this with rfl | rfl | rfl | rfl
    · exact h7
    · exact h8
    · exact ⟨_, h9⟩
    · exact ⟨_, h10⟩
  | succ d ih =>
    intro cut yc yn ys ye t9 t10 hc h hI
    have no : ¬ ur_cut G cut → wY_relativise_184 post (nI b) (nI g) (nI to) (nI G.length) (nI (ur_np B)) (nI (ur_e G)) (nI (ur_q G)) (nI (ur_sb G)) (nI (ur_f G)) (d + 1) (nI (cut + 1)) (nI li) cnt yc yn ys ye := by
      intro z
      refine ih (cut + 1) yc yn ys ye t9 t10 (by omega) h (ur_IB_c hI (ur_QS_e (fun x => ⟨fun w => ⟨w.1, by omega⟩, fun w => ⟨w.1, ?_⟩⟩)))
      have : x ≠ cut := fun v => by subst v; exact z w.1
      omega
    have yes : ur_cut G cut → ∃ n, wY_relativise_270 post (wY_relativise_184 post (nI b) (nI g) (nI to) (nI G.length) (nI (ur_np B)) (nI (ur_e G)) (nI (ur_q G)) (nI (ur_sb G)) (nI (ur_f G)) (d + 1)) (nI b) (nI g) (nI to) (nI G.length) (nI (ur_np B)) (nI (ur_e G)) (nI (ur_q G)) (nI (ur_sb G)) (nI (ur_f G)) (nI cut) n 0 (nI li) cnt yc yn ys ye := by
      intro z
      refine ⟨ur_np B + 1, yl_270 b g cut (ur_np B) li hb hg hB hG hB4 hli hli4 (by omega) (ur_np_le2 hB4) _ (fun c' n' s' e' t9 t10 h' hI' => ?_) (ur_np B) 0 yc yn ys ye t9 t10 (by omega) h (ur_IB_c hI (fun c => ⟨fun w => Or.inl w, fun w => w.elim id (fun ⟨j, hj, _⟩ => absurd hj (Nat.not_lt_zero _))⟩))⟩
      refine ih (cut + 1) c' n' s' e' t9 t10 (by omega) h' (ur_IB_c hI' (fun c => (ur_QS_c c).trans (ur_QS_e (fun x => ?_) c)))
      constructor
      · intro w
        rcases w with w | w
        · exact ⟨w.1, by omega⟩
        · subst w; exact ⟨z, by omega⟩
      · intro w
        by_cases v : x = cut
        · exact Or.inr v
        · exact Or.inl ⟨w.1, by omega⟩
    have h224 : ∀ sl : Bool, (sl = true ↔ (ur_e G < cut ∧ cut ≤ ur_q G ∧ ur_at G (cut - 1) = 47)) → wY_relativise_224 post (wY_relativise_184 post (nI b) (nI g) (nI to) (nI G.length) (nI (ur_np B)) (nI (ur_e G)) (nI (ur_q G)) (nI (ur_sb G)) (nI (ur_f G)) (d + 1)) (nI b) (nI g) (nI to) (nI G.length) (nI (ur_np B)) (nI (ur_e G)) (nI (ur_q G)) (nI (ur_sb G)) (nI (ur_f G)) (nI cut) (ur_b sl) (nI li) cnt yc yn ys ye := by
      intro sl hsl
      unfold wY_relativise_224
      refine pk_eq cut 0 (fun z => yes (Or.inr (Or.inr (Or.inr (Or.inr (Or.inl z)))))) (fun z0 => ?_)
      refine pk_eq cut (ur_sb G) (fun z => yes (Or.inr (Or.inr (Or.inr (Or.inl z))))) (fun z1 => ?_)
      refine pk_eq cut (ur_e G) (fun z => yes (Or.inr (Or.inr (Or.inl z)))) (fun z2 => ?_)
      refine pk_eq cut (ur_q G) (fun z => yes (Or.inr (Or.inl z))) (fun z3 => ?_)
      refine pk_eq cut (ur_f G) (fun z => yes (Or.inl z)) (fun z4 => ?_)
      refine ur_br (fun z => nm_r (nI_1 _) (no (fun w => ?_))) (fun z => yes (Or.inr (Or.inr (Or.inr (Or.inr (Or.inr (hsl.mp z)))))))
      rcases w with w | w | w | w | w | w
      · exact z4 w
      · exact z3 w
      · exact z2 w
      · exact z1 w
      · exact z0 w
      · rw [hsl.mpr w] at z; cases z
    have h223 : ¬ (ur_e G < cut ∧ cut ≤ ur_q G ∧ ur_at G (cut - 1) = 47) → wY_relativise_223 post (wY_relativise_184 post (nI b) (nI g) (nI to) (nI G.length) (nI (ur_np B)) (nI (ur_e G)) (nI (ur_q G)) (nI (ur_sb G)) (nI (ur_f G)) (d + 1)) (nI b) (nI g) (nI to) (nI G.length) (nI (ur_np B)) (nI (ur_e G)) (nI (ur_q G)) (nI (ur_sb G)) (nI (ur_f G)) (nI cut) (nI li) cnt yc yn ys ye :=
      fun z => h224 false ⟨fun w => (by cases w), fun w => absurd w z⟩
    have h' := h
    obtain ⟨L, hM, h9, h10, h7, h8, hk⟩ := h'
    refine br_f (nI_nlt (by omega) (by omega)) (pk_le cut (ur_e G) (fun z => h223 (fun w => by omega)) (fun z => pk_lt (ur_q G) cut (fun y => h223 (fun w => by omega)) (fun y => ?_)))
    rw [ur_s1 (by omega)]
    refine ya_at g (cut - 1) hM (by omega) ((hk g (by omega)).trans hG) (by omega) (br_c (fun w => h224 true ⟨fun _ => ⟨z, y, w⟩, fun _ => rfl⟩) (fun w => h223 (fun v => w v.2.2)))
theorem yl_146 {post : Int32 → SY → Prop} (b g to li : Nat) (hb : b < 6) (hg : g < 6) (hto : to < 6) (hB : L0 b = some B) (hG : L0 g = some G) (hB4 : B.length ≤ 40) (hli : G.length ≤ li) (hli4 : li ≤ 40) (h : ur_V 256 L0 yc yn t9 t10)
    (k : ∀ c' n' s' e' t10, ur_IB B G (ur_QS G (ur_np B) (ur_cut G)) t10 → ur_St 256 (ur_s L0 to (some t10)) c' n' → post 0 (ur_y (nI li) cnt c' n' s' e')) :
    ∀ (x : List Int32) (i c : Nat), x = ur_ex B (ur_e B + i) (ur_q B) → ur_e B + i ≤ ur_q B → c + ur_n47 x = ur_n47 (ur_C B 4) →
    wY_relativise_146 post (nI b) (nI g) (nI to) (nI G.length) (nI (ur_q B)) (nI (ur_e G)) (nI (ur_q G)) (nI (ur_sb G)) (nI (ur_f G)) (nI li) cnt yc yn ys ye (x.length + 1) (nI (4 + 2 * c)) (nI (ur_e B + i))
  | [], i, c, hx, hi, hc => by
    have q2 := ur_q_le B
    have ei : ur_e B + i = ur_q B := by
      rcases Nat.lt_or_ge (ur_e B + i) (ur_q B) with z | z
      · rw [ur_ex_cons z q2] at hx; cases hx
      · omega
    have enp : 4 + 2 * c = ur_np B := by unfold ur_np; rw [← hc]; rfl
    rw [enp]
    obtain ⟨L, hM, h9, h10, h7, h8, hk⟩ := h
    refine br_t (nI_le (by omega) (by omega)) (ya_copy g 10 hM (by omega) (by decide) (by omega) ((hk g (by omega)).trans hG) (fun c1 n1 h1 => ⟨_, yl_184 b g to li hb hg hto hB hG hB4 hli hli4 k (G.length + 1) 0 c1 n1 ys ye t9 G (by omega) (ur_V_10 h1 h9 h7 h8 hk) (ur_IB_c (ur_IB_0 B G) (fun c => ⟨fun z => z.elim, fun ⟨_, z, _⟩ => absurd z.2 (Nat.not_lt_zero _)⟩))⟩))
  | y :: x, i, c, hx, hi, hc => by
    have q2 := ur_q_le B
    have hlt : ur_e B + i < ur_q B := by
      rcases Nat.lt_or_ge (ur_e B + i) (ur_q B) with z | z
      · exact z
      · rw [ur_ex_nil z] at hx; cases hx
    have hx' := hx
    rw [ur_ex_cons hlt q2] at hx'
    have hc1 : y = ur_at B (ur_e B + i) := (List.cons.inj hx').1
    have hx1 : x = ur_ex B (ur_e B + (i + 1)) (ur_q B) := (List.cons.inj hx').2
    rw [ur_n47] at hc
    have ih := yl_146 b g to li hb hg hto hB hG hB4 hli hli4 h k x (i + 1)
    have h' := h
    obtain ⟨L, hM, h9, h10, h7, h8, hk⟩ := h'
    refine br_f (nI_ge (by omega) (by omega)) (ya_at b (ur_e B + i) hM (by omega) ((hk b (by omega)).trans hB) (by omega) ?_)
    rw [← hc1]
    refine br_c (fun z => ?_) (fun z => ?_)
    · rw [if_pos z] at hc
      exact nm_r (e' := nI (4 + 2 * (c + 1))) (ur_p2 _) (nm_r (nI_1 _) (ih (c + 1) hx1 (by omega) (by omega)))
    · rw [if_neg z] at hc
      exact nm_r (nI_1 _) (ih c hx1 (by omega) (by omega))
end
end
section
/-! characters: what lowering, raising and decoding keep -/
theorem ur_in (c : Int32) : (0 ≤ c.toInt ∧ c.toInt < 128 ∧ ∃ j : Nat, j < 128 ∧ c = nI j) ∨ ¬ (0 ≤ c.toInt ∧ c.toInt < 128) := by
  by_cases h : 0 ≤ c.toInt ∧ c.toInt < 128
  · refine Or.inl ⟨h.1, h.2, c.toInt.toNat, by omega, ?_⟩
    apply Int32.toInt_inj.mp
    rw [nI_toInt (by omega)]
    omega
  · exact Or.inr h
theorem ur_t (n : Nat) (h : n < 2 ^ 31) : (nI n).toInt = (n : Int) := nI_toInt h
/-- a letter is below 128 -/
theorem ur_isL_in {c : Int32} (h : ur_isL c = true) : ∃ j : Nat, j < 128 ∧ c = nI j := by
  rcases ur_in c with ⟨_, _, q⟩ | q
  · exact q
  · exfalso
    unfold ur_isL ur_isL2 at h
    simp only [Int32.lt_iff_toInt_lt, Int32.le_iff_toInt_le, show (65 : Int32).toInt = 65 from by decide, show (90 : Int32).toInt = 90 from by decide, show (97 : Int32).toInt = 97 from by decide, show (122 : Int32).toInt = 122 from by decide] at h
    split at h
    · split at h
      · cases h
      · omega
    · split at h
      · omega
      · split at h
        · cases h
        · split at h
          · cases h
          · omega
theorem ur_isD_in {c : Int32} (h : ur_isD c = true) : ∃ j : Nat, j < 128 ∧ c = nI j := by
  obtain ⟨a, b⟩ := ur_dv_e h
  exact ⟨_, by omega, b⟩
theorem ur_hk_in {c : Int32} (h : ur_hk c = true) : ∃ j : Nat, j < 128 ∧ c = nI j := by
  rcases ur_in c with ⟨_, _, q⟩ | q
  · exact q
  · exfalso
    have h' := ur_hk_t.mp h
    have e : ur_hx c = -1 := by
      unfold ur_hx ur_hx2 ur_hx3
      simp only [Int32.lt_iff_toInt_lt, show (48 : Int32).toInt = 48 from by decide, show (57 : Int32).toInt = 57 from by decide, show (65 : Int32).toInt = 65 from by decide, show (70 : Int32).toInt = 70 from by decide, show (97 : Int32).toInt = 97 from by decide, show (102 : Int32).toInt = 102 from by decide]
      split
      · split
        · split
          · rfl
          · split
            · rfl
            · omega
        · split
          · split
            · rfl
            · split
              · rfl
              · omega
          · omega
      · split
        · split
          · split
            · rfl
            · split
              · rfl
              · omega
          · split
            · split
              · rfl
              · split
                · rfl
                · omega
            · omega
        · omega
    rw [e] at h'
    exact absurd h' (by decide)
theorem ur_un_in {c : Int32} (h : ur_un c = true) : ∃ j : Nat, j < 128 ∧ c = nI j := by
  unfold ur_un at h
  rw [Bool.or_eq_true, Bool.or_eq_true] at h
  rcases h with h | h | h
  · exact ur_isL_in h
  · exact ur_isD_in h
  · unfold ur_un4 at h
    by_cases a : c = 45
    · exact ⟨45, by decide, a⟩
    by_cases b : c = 46
    · exact ⟨46, by decide, b⟩
    by_cases d : c = 95
    · exact ⟨95, by decide, d⟩
    by_cases e : c = 126
    · exact ⟨126, by decide, e⟩
    rw [if_neg a, if_neg b, if_neg d, if_neg e] at h
    cases h
theorem ur_q1 : ∀ j : Nat, j < 128 → ur_isL (nI j) = true → ur_isL (ur_lc (nI j)) = true := by decide +kernel
theorem ur_q2 : ∀ j : Nat, j < 128 → ur_un (nI j) = true → ur_un (ur_lc (nI j)) = true := by decide +kernel
theorem ur_q3 : ∀ j : Nat, j < 128 → ur_hk (nI j) = true → (ur_hk (ur_uc (nI j)) = true ∧ ur_hk (ur_lc (nI j)) = true ∧ ur_un (nI j) = true ∧ ¬ nI j = 37 ∧ ¬ nI j = 58 ∧ ¬ nI j = 91 ∧ ¬ nI j = 93 ∧ ¬ nI j = 64) := by decide +kernel
theorem ur_q4 : ∀ j : Nat, j < 128 → ur_isD (nI j) = true → (ur_lc (nI j) = nI j) := by decide +kernel
theorem ur_q5 : ∀ j : Nat, j < 128 → ur_un (nI j) = true → (¬ nI j = 37 ∧ ¬ nI j = 58 ∧ ¬ nI j = 47 ∧ ¬ nI j = 63 ∧ ¬ nI j = 35 ∧ ¬ nI j = 64 ∧ ¬ nI j = 91 ∧ ¬ nI j = 93) := by decide +kernel
theorem ur_lc_isL {c : Int32} (h : ur_isL c = true) : ur_isL (ur_lc c) = true := by
  obtain ⟨j, hj, rfl⟩ := ur_isL_in h; exact ur_q1 j hj h
theorem ur_lc_un {c : Int32} (h : ur_un c = true) : ur_un (ur_lc c) = true := by
  obtain ⟨j, hj, rfl⟩ := ur_un_in h; exact ur_q2 j hj h
theorem ur_hk_all {c : Int32} (h : ur_hk c = true) : ur_hk (ur_uc c) = true ∧ ur_hk (ur_lc c) = true ∧ ur_un c = true ∧ ¬ c = 37 ∧ ¬ c = 58 ∧ ¬ c = 91 ∧ ¬ c = 93 ∧ ¬ c = 64 := by
  obtain ⟨j, hj, rfl⟩ := ur_hk_in h; exact ur_q3 j hj h
theorem ur_un_ne {c : Int32} (h : ur_un c = true) : ¬ c = 37 ∧ ¬ c = 58 ∧ ¬ c = 47 ∧ ¬ c = 63 ∧ ¬ c = 35 ∧ ¬ c = 64 ∧ ¬ c = 91 ∧ ¬ c = 93 := by
  obtain ⟨j, hj, rfl⟩ := ur_un_in h; exact ur_q5 j hj h
theorem ur_lc_id {c : Int32} (h : ur_isL c = false) : ur_lc c = c := by
  unfold ur_lc
  by_cases a : c < 65
  · rw [if_pos a]
  · rw [if_neg a]
    by_cases b : 90 < c
    · rw [if_pos b]
    · exfalso
      unfold ur_isL at h
      rw [if_neg a, if_pos (Int32.not_lt.mp b)] at h
      cases h
theorem ur_lc_sc {c : Int32} (h : ur_sc c = true) : ur_sc (ur_lc c) = true := by
  cases z : ur_isL c
  · rw [ur_lc_id z]; exact h
  · unfold ur_sc; rw [ur_lc_isL z]; rfl
theorem ur_lo_al {lo : Bool} {lv : Nat} {c : Int32} (h : ur_al lv c = true) : ur_al lv (ur_lo lo c) = true := by
  unfold ur_lo
  split
  · cases z : ur_isL c
    · rw [ur_lc_id z]; exact h
    · unfold ur_al
      rw [ur_lc_un (by unfold ur_un; rw [z]; rfl)]; rfl
  · exact h
theorem ur_lo_un {lo : Bool} {c : Int32} (h : ur_un c = true) : ur_un (ur_lo lo c) = true := by
  unfold ur_lo
  split
  · exact ur_lc_un h
  · exact h
theorem ur_un_al {lv : Nat} {c : Int32} (h : ur_un c = true) : ur_al lv c = true := by unfold ur_al; rw [h]; rfl
theorem ur_al_ne {lv : Nat} {c : Int32} (h : ur_al lv c = true) : ¬ c = 35 ∧ ¬ c = 37 ∧ ¬ c = 91 ∧ ¬ c = 93 ∧ (lv ≤ 2 → ¬ c = 63) ∧ (lv ≤ 1 → ¬ c = 47 ∧ ¬ c = 64) ∧ (lv = 0 → ¬ c = 58) := by
  refine ⟨?_, ?_, ?_, ?_, ?_, ?_, ?_⟩
  · intro z; subst z; exact absurd (show false = true from h) (by decide)
  · intro z; subst z; exact absurd (show false = true from h) (by decide)
  · intro z; subst z; exact absurd (show false = true from h) (by decide)
  · intro z; subst z; exact absurd (show false = true from h) (by decide)
  · intro hl z
    subst z
    have : decide (3 ≤ lv) = true := h
    exact absurd (of_decide_eq_true this) (by omega)
  · intro hl
    refine ⟨fun z => ?_, fun z => ?_⟩
    · subst z
      have : decide (2 ≤ lv) = true := h
      exact absurd (of_decide_eq_true this) (by omega)
    · subst z
      have : decide (2 ≤ lv) = true := h
      exact absurd (of_decide_eq_true this) (by omega)
  · intro hl z
    subst z
    have : decide (1 ≤ lv) = true := h
    exact absurd (of_decide_eq_true this) (by omega)
theorem ur_sc_ne {c : Int32} (h : ur_sc c = true) : ¬ c = 58 ∧ ¬ c = 47 ∧ ¬ c = 63 ∧ ¬ c = 35 ∧ ¬ c = 37 := by
  refine ⟨?_, ?_, ?_, ?_, ?_⟩ <;> (intro z; subst z; exact absurd (show false = true from h) (by decide))
theorem ur_isL_sc {c : Int32} (h : ur_isL c = true) : ur_sc c = true := by unfold ur_sc; rw [h]; rfl
theorem ur_isD_ne {c : Int32} (h : ur_isD c = true) : ¬ c = 64 ∧ ¬ c = 47 ∧ ¬ c = 63 ∧ ¬ c = 35 ∧ ¬ c = 37 ∧ ¬ c = 91 := by
  refine ⟨?_, ?_, ?_, ?_, ?_, ?_⟩ <;> (intro z; subst z; exact absurd (show false = true from h) (by decide))
end
section
/-! good lists: parts, decoding, cleaning -/
theorem ur_gC_mem {lv : Nat} : ∀ {l : List Int32}, ur_gC lv l = true → ∀ c, c ∈ l → c = 37 ∨ ur_al lv c = true
  | [], _, c, hc => absurd hc List.not_mem_nil
  | d :: l, h, c, hc => by
    rw [ur_gC, Bool.and_eq_true] at h
    rcases List.mem_cons.mp hc with e | e
    · subst e
      by_cases z : c = 37
      · exact Or.inl z
      · have := h.1; rw [if_neg z] at this; exact Or.inr this
    · exact ur_gC_mem h.2 c e
theorem ur_gC_ne {lv : Nat} {l : List Int32} (h : ur_gC lv l = true) : ∀ c, c ∈ l → ¬ c = 35 ∧ ¬ c = 91 ∧ ¬ c = 93 ∧ (lv ≤ 2 → ¬ c = 63) ∧ (lv ≤ 1 → ¬ c = 47 ∧ ¬ c = 64) ∧ (lv = 0 → ¬ c = 58) := by
  intro c hc
  rcases ur_gC_mem h c hc with e | e
  · subst e
    exact ⟨by decide, by decide, by decide, fun _ => by decide, fun _ => ⟨by decide, by decide⟩, fun _ => by decide⟩
  · have := ur_al_ne e
    exact ⟨this.1, this.2.2.1, this.2.2.2.1, this.2.2.2.2.1, this.2.2.2.2.2.1, this.2.2.2.2.2.2⟩
theorem ur_h2_app {x y : List Int32} (h : ur_h2 x = true) : ur_h2 (x ++ y) = true := by
  match x, h with
  | a :: b :: _, h => exact h
theorem ur_gC_app {lv : Nat} : ∀ {x y : List Int32}, ur_gC lv x = true → ur_gC lv y = true → ur_gC lv (x ++ y) = true
  | [], y, _, hy => hy
  | c :: x, y, hx, hy => by
    rw [ur_gC, Bool.and_eq_true] at hx
    show ur_gC lv (c :: (x ++ y)) = true
    rw [ur_gC, Bool.and_eq_true]
    refine ⟨?_, ur_gC_app hx.2 hy⟩
    have h1 := hx.1
    by_cases z : c = 37
    · rw [if_pos z] at h1 ⊢; exact ur_h2_app h1
    · rw [if_neg z] at h1 ⊢; exact h1
theorem ur_h2_47 {x y : List Int32} (h : ur_h2 (x ++ 47 :: y) = true) : ur_h2 x = true := by
  match x, h with
  | [], h =>
    cases y with
    | nil => cases h
    | cons a y => exact absurd (show (false && ur_hk a) = true from h) (by simp)
  | [a], h =>
    have : (ur_hk a && ur_hk 47) = true := h
    rw [show ur_hk 47 = false from rfl, Bool.and_false] at this
    cases this
  | a :: b :: _, h => exact h
theorem ur_gC_47 {lv : Nat} : ∀ {x y : List Int32}, ur_gC lv (x ++ 47 :: y) = true → ur_gC lv x = true ∧ ur_gC lv y = true
  | [], y, h => by
    have h : ur_gC lv (47 :: y) = true := h
    rw [ur_gC, Bool.and_eq_true] at h
    exact ⟨rfl, h.2⟩
  | c :: x, y, h => by
    have h : ur_gC lv (c :: (x ++ 47 :: y)) = true := h
    rw [ur_gC, Bool.and_eq_true] at h
    have q := ur_gC_47 h.2
    refine ⟨?_, q.2⟩
    rw [ur_gC, Bool.and_eq_true]
    refine ⟨?_, q.1⟩
    have h1 := h.1
    by_cases z : c = 37
    · rw [if_pos z] at h1 ⊢; exact ur_h2_47 h1
    · rw [if_neg z] at h1 ⊢; exact h1
theorem ur_gC_c {lv : Nat} {c : Int32} {l : List Int32} (hc : ur_al lv c = true) (h37 : ¬ c = 37) (h : ur_gC lv l = true) : ur_gC lv (c :: l) = true := by
  rw [ur_gC, if_neg h37, hc, h]; rfl
theorem ur_gC_s {lv : Nat} {c : Int32} (hc : ur_al lv c = true) (h37 : ¬ c = 37) : ur_gC lv [c] = true := ur_gC_c hc h37 rfl
/-- the unit of an escape -/
theorem ur_gC_u2 {lo : Bool} {lv : Nat} {x y : Int32} {l : List Int32} (hx : ur_hk x = true) (hy : ur_hk y = true) (h : ur_gC lv l = true) : ur_gC lv (ur_u2 lo x y ++ l) = true := by
  unfold ur_u2
  split
  · rename_i z
    have u := ur_lo_un (lo := lo) z
    exact ur_gC_c (ur_un_al u) (ur_un_ne u).1 h
  · have a := ur_hk_all hx
    have b := ur_hk_all hy
    have a2 := ur_hk_all a.1
    have b2 := ur_hk_all b.1
    show ur_gC lv (37 :: ur_uc x :: ur_uc y :: l) = true
    rw [ur_gC, if_pos rfl, Bool.and_eq_true]
    refine ⟨?_, ur_gC_c (ur_un_al a2.2.2.1) a2.2.2.2.1 (ur_gC_c (ur_un_al b2.2.2.1) b2.2.2.2.1 h)⟩
    show (ur_hk (ur_uc x) && ur_hk (ur_uc y)) = true
    rw [a.1, b.1]; rfl
theorem ur_gC_dec {lo : Bool} {lv : Nat} : ∀ (n : Nat) (l : List Int32), l.length < n → ur_gC lv l = true → ur_gC lv (ur_dec lo l) = true := by
  intro n
  induction n with
  | zero => intro l hl; omega
  | succ n ih =>
    intro l hl h
    cases l with
    | nil => rfl
    | cons c l =>
      rw [List.length_cons] at hl
      rw [ur_gC, Bool.and_eq_true] at h
      by_cases z : c = 37
      · have h1 := h.1
        rw [if_pos z] at h1
        have h2 := h.2
        match l, h1, h2, hl with
        | [], h1, _, _ => cases h1
        | [_], h1, _, _ => cases h1
        | x :: y :: l, h1, h2, hl =>
          have h1 : (ur_hk x && ur_hk y) = true := h1
          rw [Bool.and_eq_true] at h1
          rw [ur_gC, Bool.and_eq_true, ur_gC, Bool.and_eq_true] at h2
          simp only [List.length_cons] at hl
          rw [z, ur_dec_e]
          exact ur_gC_u2 h1.1 h1.2 (ih l (by omega) h2.2.2)
      · have h1 := h.1
        rw [if_neg z] at h1
        rw [ur_dec_p c l (Or.inl z)]
        have a := ur_lo_al (lo := lo) h1
        exact ur_gC_c a (ur_al_ne a).2.1 (ih l (by omega) h.2)
/-- no colon ahead of the first slash -/
def ur_NP : List Int32 → Prop
  | [] => True
  | c :: l => c = 47 ∨ (¬ c = 58 ∧ ur_NP l)
/-- decoding, seen from its head -/
theorem ur_dec_hd {lv : Nat} (c : Int32) (l : List Int32) (h : ur_gC lv (c :: l) = true) : (¬ c = 37 ∧ ur_dec false (c :: l) = c :: ur_dec false l) ∨ (c = 37 ∧ ∃ d r, ur_dec false (c :: l) = d :: r ∧ ¬ d = 47 ∧ ¬ d = 58) := by
  by_cases z : c = 37
  · refine Or.inr ⟨z, ?_⟩
    rw [ur_gC, Bool.and_eq_true, if_pos z] at h
    match l, h with
    | [], h => cases h.1
    | [_], h => cases h.1
    | x :: y :: l, h =>
      rw [z, ur_dec_e]
      unfold ur_u2
      split
      · rename_i w
        have u := ur_un_ne w
        exact ⟨_, _, rfl, u.2.2.1, u.2.1⟩
      · exact ⟨37, _, rfl, by decide, by decide⟩
  · exact Or.inl ⟨z, ur_dec_p c l (Or.inl z)⟩
theorem ur_NP_u2 {x y : Int32} {l : List Int32} (hx : ur_hk x = true) (hy : ur_hk y = true) (h : ur_NP l) : ur_NP (ur_u2 false x y ++ l) := by
  unfold ur_u2
  split
  · rename_i z
    exact Or.inr ⟨(ur_un_ne z).2.1, h⟩
  · have a := ur_hk_all (ur_hk_all hx).1
    have b := ur_hk_all (ur_hk_all hy).1
    exact Or.inr ⟨by decide, Or.inr ⟨a.2.2.2.2.1, Or.inr ⟨b.2.2.2.2.1, h⟩⟩⟩
theorem ur_NP_dec {lv : Nat} : ∀ (n : Nat) (l : List Int32), l.length < n → ur_gC lv l = true → ur_NP l → ur_NP (ur_dec false l) := by
  intro n
  induction n with
  | zero => intro l hl; omega
  | succ n ih =>
    intro l hl h hn
    cases l with
    | nil => exact hn
    | cons c l =>
      rw [List.length_cons] at hl
      rw [ur_gC, Bool.and_eq_true] at h
      by_cases z : c = 37
      · have h1 := h.1
        rw [if_pos z] at h1
        have h2 := h.2
        match l, h1, h2, hl, hn with
        | [], h1, _, _, _ => cases h1
        | [_], h1, _, _, _ => cases h1
        | x :: y :: l, h1, h2, hl, hn =>
          have h1 : (ur_hk x && ur_hk y) = true := h1
          rw [Bool.and_eq_true] at h1
          rw [ur_gC, Bool.and_eq_true, ur_gC, Bool.and_eq_true] at h2
          simp only [List.length_cons] at hl
          rw [z, ur_dec_e]
          have nl : ur_NP l := by
            rcases hn with hn | ⟨_, hn⟩
            · rw [z] at hn; exact absurd hn (by decide)
            · rcases hn with hn | ⟨_, hn⟩
              · rw [hn] at h1; exact absurd h1.1 (by decide)
              · rcases hn with hn | ⟨_, hn⟩
                · rw [hn] at h1; exact absurd h1.2 (by decide)
                · exact hn
          exact ur_NP_u2 h1.1 h1.2 (ih l (by omega) h2.2.2 nl)
      · rw [ur_dec_p c l (Or.inl z)]
        rcases hn with hn | hn
        · exact Or.inl hn
        · exact Or.inr ⟨hn.1, ih l (by omega) h.2 hn.2⟩
/-- two slashes at the head -/
def ur_2s (l : List Int32) : Prop := ∃ r, l = 47 :: 47 :: r
theorem ur_2s_dec {lv : Nat} {l : List Int32} (h : ur_gC lv l = true) (h2 : ur_2s (ur_dec false l)) : ur_2s l := by
  obtain ⟨r, hr⟩ := h2
  match l, h, hr with
  | [], _, hr => cases hr
  | c :: l, h, hr =>
    rcases ur_dec_hd c l h with ⟨z, e⟩ | ⟨z, d, r', e, d47, _⟩
    · rw [e] at hr
      have hc : c = 47 := (List.cons.inj hr).1
      have hr2 := (List.cons.inj hr).2
      rw [ur_gC, Bool.and_eq_true] at h
      match l, h, hr2 with
      | [], _, hr2 => cases hr2
      | d :: l, h, hr2 =>
        rcases ur_dec_hd d l h.2 with ⟨z, e⟩ | ⟨z, d', r', e, d47, _⟩
        · rw [e] at hr2
          have hd : d = 47 := (List.cons.inj hr2).1
          exact ⟨l, by rw [hc, hd]⟩
        · rw [e] at hr2; exact absurd (List.cons.inj hr2).1 d47
    · rw [e] at hr; exact absurd (List.cons.inj hr).1 d47
theorem ur_dec_47 {l r : List Int32} (h : l = 47 :: r) : ∃ r', ur_dec false l = 47 :: r' := by
  subst h
  exact ⟨_, ur_dec_p 47 r (Or.inl (by decide))⟩
theorem ur_dec_n47 {lv : Nat} {l : List Int32} (h : ur_gC lv l = true) {r : List Int32} (he : ur_dec false l = 47 :: r) : ∃ r', l = 47 :: r' := by
  match l, h, he with
  | [], _, he => cases he
  | c :: l, h, he =>
    rcases ur_dec_hd c l h with ⟨z, e⟩ | ⟨z, d, r', e, d47, _⟩
    · rw [e] at he
      exact ⟨l, by rw [(List.cons.inj he).1]⟩
    · rw [e] at he; exact absurd (List.cons.inj he).1 d47
/-! cleaning -/
def ur_gM (lv : Nat) (M : List (List Int32)) : Prop := ∀ x, x ∈ M → ur_gC lv x = true
theorem ur_gM_nx {lv : Nat} {b : Bool} {M : List (List Int32)} {cur : List Int32} (h : ur_gM lv M) (hc : ur_gC lv cur = true) : ur_gM lv (ur_nx b M cur) := by
  have app : ∀ {N : List (List Int32)} {x : List Int32}, ur_gM lv N → ur_gC lv x = true → ur_gM lv (N ++ [x]) := by
    intro N x hN hx y hy
    rcases List.mem_append.mp hy with w | w
    · exact hN y w
    · rw [List.mem_singleton] at w; subst w; exact hx
  have dr : ur_gM lv M.dropLast := fun y hy => h y (List.dropLast_subset M hy)
  unfold ur_nx
  split
  · split
    · exact app h rfl
    · exact h
  · split
    · split
      · exact app dr rfl
      · exact dr
    · exact app h hc
theorem ur_gM_cl {lv : Nat} : ∀ (x : List Int32) (M : List (List Int32)) (cur : List Int32), ur_gM lv M → ur_gC lv (cur ++ x) = true → ur_gM lv (ur_cl M cur x)
  | [], M, cur, hM, hc => by
    rw [List.append_nil] at hc
    exact ur_gM_nx hM hc
  | c :: x, M, cur, hM, hc => by
    rw [ur_cl]
    by_cases z : c = 47
    · rw [if_pos z]
      rw [z] at hc
      have q := ur_gC_47 hc
      exact ur_gM_cl x _ [] (ur_gM_nx hM q.1) q.2
    · rw [if_neg z]
      refine ur_gM_cl x M (cur ++ [c]) hM ?_
      rw [List.append_assoc]; exact hc
theorem ur_gC_flat {lv : Nat} (h47 : ur_al lv 47 = true) : ∀ (M : List (List Int32)), ur_gM lv M → ur_gC lv (ur_flat M) = true
  | [], _ => rfl
  | x :: M, h => ur_gC_c h47 (by decide) (ur_gC_app (h x List.mem_cons_self) (ur_gC_flat h47 M (fun y hy => h y (List.mem_cons_of_mem _ hy))))
theorem ur_gC_clean {lv : Nat} {au : Bool} (h47 : ur_al lv 47 = true) (h46 : ur_al lv 46 = true) : ∀ (l : List Int32), ur_gC lv l = true → ur_gC lv (ur_clean au l) = true
  | [], _ => rfl
  | c :: l, h => by
    show ur_gC lv (if c = 47 then ur_out au (ur_cl [] [] l) else c :: l) = true
    by_cases z : c = 47
    · rw [if_pos z]
      rw [ur_gC, Bool.and_eq_true] at h
      have q := ur_gC_flat h47 _ (ur_gM_cl l [] [] (fun y hy => absurd hy List.not_mem_nil) h.2)
      unfold ur_out
      split
      · exact ur_gC_c h47 (by decide) (ur_gC_c h46 (by decide) q)
      · exact q
    · rw [if_neg z]; exact h
theorem ur_nx_t_ne {M : List (List Int32)} {cur : List Int32} : ur_nx true M cur ≠ [] := by
  unfold ur_nx
  split
  · rw [if_pos rfl]; simp
  · split
    · rw [if_pos rfl]; simp
    · simp
theorem ur_cl_ne : ∀ (x : List Int32) (M : List (List Int32)) (cur : List Int32), ur_cl M cur x ≠ []
  | [], M, cur => ur_nx_t_ne
  | c :: x, M, cur => by
    rw [ur_cl]
    split
    · exact ur_cl_ne x _ _
    · exact ur_cl_ne x _ _
theorem ur_cl_no : ∀ (x : List Int32) (M : List (List Int32)) (cur : List Int32), ur_no M → (∀ j, j < cur.length → ¬ ur_at cur j = 47) → ur_no (ur_cl M cur x)
  | [], M, cur, h, hc => ur_nx_no h hc
  | c :: x, M, cur, h, hc => by
    rw [ur_cl]
    by_cases z : c = 47
    · rw [if_pos z]
      exact ur_cl_no x _ [] (ur_nx_no h hc) ur_no_nil
    · rw [if_neg z]
      refine ur_cl_no x M (cur ++ [c]) h (fun j hj => ?_)
      rw [List.length_append, List.length_singleton] at hj
      by_cases e : j = cur.length
      · subst e
        rw [show ur_at (cur ++ [c]) cur.length = c from ur_at_r cur [c] 0]; exact z
      · rw [ur_at_l _ _ _ (by omega)]; exact hc j (by omega)
/-- a clean path begins with a slash where the path does -/
theorem ur_clean_47 {au : Bool} {r : List Int32} : ∃ r', ur_clean au (47 :: r) = 47 :: r' := by
  show ∃ r', (if (47 : Int32) = 47 then ur_out au (ur_cl [] [] r) else 47 :: r) = 47 :: r'
  rw [if_pos rfl]
  unfold ur_out
  split
  · exact ⟨_, rfl⟩
  · have := ur_cl_ne r [] []
    match ur_cl [] [] r, this with
    | [], h => exact absurd rfl h
    | x :: M, _ => exact ⟨_, rfl⟩
theorem ur_clean_n47 {au : Bool} {c : Int32} {r : List Int32} (h : ¬ c = 47) : ur_clean au (c :: r) = c :: r := if_neg h
/-- a clean path without an authority never begins with two slashes -/
theorem ur_clean_2s {l : List Int32} (h : ur_2s (ur_clean false l)) : False := by
  obtain ⟨s, hs⟩ := h
  match l, hs with
  | [], hs => cases hs
  | c :: l, hs =>
    by_cases z : c = 47
    · have e : ur_clean false (c :: l) = ur_out false (ur_cl [] [] l) := if_pos z
      rw [e] at hs
      have hno := ur_cl_no l [] [] (fun y hy => absurd hy List.not_mem_nil) ur_no_nil
      rw [← ur_gd_out hno] at hs
      unfold ur_gd at hs
      split at hs
      · exact absurd (List.cons.inj (List.cons.inj hs).2).1 (by decide)
      · rename_i w
        refine w ⟨?_, ?_, ?_⟩
        · rw [hs]; simp
        · rw [hs]; rfl
        · rw [hs]; rfl
    · rw [ur_clean_n47 z] at hs
      exact z (List.cons.inj hs).1
end
section
/-! the borders of a composed text -/
theorem ur_find_mid {X M Y : List Int32} {c : Int32} {e : Nat} (hM : ∀ x, x ∈ M → ¬ x = c) (he : X.length + M.length ≤ e) (hY : X.length + M.length < e → ur_at Y 0 = c) : ur_find (X ++ (M ++ Y)) c X.length e = X.length + M.length := by
  refine ur_find_uq (by omega) he (fun i h1 h2 => ?_) (fun h => ?_)
  · rw [ur_at_r' h1, ur_at_l _ _ _ (by omega)]
    exact hM _ (ur_at_mem _ _ (by omega))
  · rw [ur_at_r]
    have := hY h
    rw [show M.length = M.length + 0 from rfl, ur_at_r]; exact this
theorem ur_sg_s : ∀ (s r : List Int32) (i : Nat), (∀ c, c ∈ s → ¬ c = 58 ∧ ¬ c = 47 ∧ ¬ c = 63 ∧ ¬ c = 35) → ur_sg i (s ++ 58 :: r) = i + s.length + 1
  | [], r, i, _ => by
    show ur_sg i (58 :: r) = _
    rw [ur_sg, if_pos rfl]; rfl
  | c :: s, r, i, h => by
    have hc := h c List.mem_cons_self
    show ur_sg i (c :: (s ++ 58 :: r)) = _
    rw [ur_sg, if_neg hc.1, if_neg hc.2.1, if_neg hc.2.2.1, if_neg hc.2.2.2, ur_sg_s s r (i + 1) (fun d hd => h d (List.mem_cons_of_mem _ hd)), List.length_cons]
    omega
/-- the first of : / ? # is no colon -/
def ur_ns : List Int32 → Prop
  | [] => True
  | c :: l => (c = 47 ∨ c = 63 ∨ c = 35) ∨ (¬ c = 58 ∧ ur_ns l)
theorem ur_sg_n : ∀ (r : List Int32) (i : Nat), ur_ns r → ur_sg i r = 0
  | [], i, _ => rfl
  | c :: r, i, h => by
    rw [ur_sg]
    rcases h with h | h
    · rw [if_neg (by rcases h with h | h | h <;> rw [h] <;> decide)]
      rcases h with h | h | h
      · rw [if_pos h]
      · rw [if_neg (by rw [h]; decide), if_pos h]
      · rw [if_neg (by rw [h]; decide), if_neg (by rw [h]; decide), if_pos h]
    · rw [if_neg h.1]
      split
      · rfl
      · split
        · rfl
        · split
          · rfl
          · exact ur_sg_n r (i + 1) h.2
theorem ur_ns_sg : ∀ (r : List Int32) (i : Nat), ur_sg i r = 0 → ur_ns r
  | [], i, _ => trivial
  | c :: r, i, h => by
    rw [ur_sg] at h
    by_cases a : c = 58
    · rw [if_pos a] at h; omega
    rw [if_neg a] at h
    by_cases b : c = 47
    · exact Or.inl (Or.inl b)
    by_cases d : c = 63
    · exact Or.inl (Or.inr (Or.inl d))
    by_cases e : c = 35
    · exact Or.inl (Or.inr (Or.inr e))
    rw [if_neg b, if_neg d, if_neg e] at h
    exact Or.inr ⟨a, ur_ns_sg r (i + 1) h⟩
theorem ur_ns_NP : ∀ (P r : List Int32), ur_NP P → (∀ c, c ∈ P → ¬ c = 58 ∨ True) → ur_ns r → ur_ns (P ++ r)
  | [], r, _, _, h => h
  | c :: P, r, hP, _, h => by
    rcases hP with z | z
    · exact Or.inl (Or.inl z)
    · exact Or.inr ⟨z.1, ur_ns_NP P r z.2 (fun _ _ => Or.inr trivial) h⟩
theorem ur_NP_ns : ∀ (P r : List Int32), (∀ c, c ∈ P → ¬ c = 63 ∧ ¬ c = 35) → ur_ns (P ++ r) → ur_NP P
  | [], r, _, _ => trivial
  | c :: P, r, hP, h => by
    have hc := hP c List.mem_cons_self
    rcases h with z | z
    · rcases z with z | z | z
      · exact Or.inl z
      · exact absurd z hc.1
      · exact absurd z hc.2
    · exact Or.inr ⟨z.1, ur_NP_ns P r (fun d hd => hP d (List.mem_cons_of_mem _ hd)) z.2⟩
section
variable {S A P Q F T : List Int32}
/-- the text is put together of parts with their delimiters -/
def ur_pt (S A P Q F T : List Int32) : Prop :=
  T = S ++ (A ++ (P ++ (Q ++ F))) ∧ ur_sb T = S.length ∧ (∀ c, c ∈ A → ¬ c = 63 ∧ ¬ c = 35) ∧ (∀ c, c ∈ P → ¬ c = 63 ∧ ¬ c = 35) ∧ (∀ c, c ∈ Q → ¬ c = 35) ∧ (Q = [] ∨ ur_at Q 0 = 63) ∧ (F = [] ∨ ur_at F 0 = 35)
theorem ur_pt_len (h : ur_pt S A P Q F T) : T.length = S.length + A.length + P.length + Q.length + F.length := by
  rw [h.1]; simp only [List.length_append]; omega
theorem ur_pt_f (h : ur_pt S A P Q F T) : ur_f T = S.length + A.length + P.length + Q.length := by
  have hl := ur_pt_len h
  obtain ⟨hT, hs, hA, hP, hQ, hQ0, hF0⟩ := h
  have e : T = S ++ ((A ++ (P ++ Q)) ++ F) := by rw [hT]; simp only [List.append_assoc]
  unfold ur_f
  rw [hs]
  have q := ur_find_mid (X := S) (M := A ++ (P ++ Q)) (Y := F) (c := 35) (e := T.length) (fun x hx => ?_) (by simp only [List.length_append]; omega) (fun z => ?_)
  · rw [← e] at q; rw [q]; simp only [List.length_append]; omega
  · rcases List.mem_append.mp hx with w | w
    · exact (hA x w).2
    · rcases List.mem_append.mp w with w | w
      · exact (hP x w).2
      · exact hQ x w
  · rcases hF0 with w | w
    · rw [w] at hl; simp only [List.length_append, List.length_nil] at z hl; omega
    · exact w
theorem ur_pt_q (h : ur_pt S A P Q F T) : ur_q T = S.length + A.length + P.length := by
  have hf := ur_pt_f h
  obtain ⟨hT, hs, hA, hP, hQ, hQ0, hF0⟩ := h
  have e : T = S ++ ((A ++ P) ++ (Q ++ F)) := by rw [hT]; simp only [List.append_assoc]
  unfold ur_q
  rw [hs, hf]
  have q := ur_find_mid (X := S) (M := A ++ P) (Y := Q ++ F) (c := 63) (e := S.length + A.length + P.length + Q.length) (fun x hx => ?_) (by simp only [List.length_append]; omega) (fun z => ?_)
  · rw [← e] at q; rw [q]; simp only [List.length_append]; omega
  · rcases List.mem_append.mp hx with w | w
    · exact (hA x w).1
    · exact (hP x w).1
  · rcases hQ0 with w | w
    · rw [w] at z; simp only [List.length_append, List.length_nil] at z; omega
    · match Q, w with
      | [], w => exact absurd w (by decide)
      | c :: _, w => exact w
/-- the head of what follows the path -/
theorem ur_pt_hd (h : ur_pt S A P Q F T) : ¬ ur_at (Q ++ F) 0 = 47 := by
  obtain ⟨hT, hs, hA, hP, hQ, hQ0, hF0⟩ := h
  match Q, hQ0 with
  | [], _ =>
    match F, hF0 with
    | [], _ => decide
    | c :: _, w =>
      have w : c = 35 := w.elim (fun z => by cases z) id
      show ¬ c = 47
      rw [w]; decide
  | c :: _, w =>
    have w : c = 63 := w.elim (fun z => by cases z) id
    show ¬ c = 47
    rw [w]; decide
theorem ur_pt_auf (h : ur_pt S [] P Q F T) (h2 : ¬ ur_2s P) : ur_au T = false := by
  have hd := ur_pt_hd h
  obtain ⟨hT, hs, hA, hP, hQ, hQ0, hF0⟩ := h
  rw [List.nil_append] at hT
  cases q : ur_au T
  · rfl
  · exfalso
    obtain ⟨a1, a2⟩ := ur_au_t q
    rw [hs, hT, show S.length = S.length + 0 from rfl, ur_at_r] at a1
    rw [hs, hT, ur_at_r] at a2
    match P, a1, a2, h2 with
    | [], a1, _, _ => exact hd a1
    | [c], _, a2, _ => exact hd a2
    | c :: d :: P, a1, a2, h2 => exact h2 ⟨P, by rw [show c = 47 from a1, show d = 47 from a2]⟩
theorem ur_pt_aut {a : List Int32} (h : ur_pt S (47 :: 47 :: a) P Q F T) : ur_au T = true := by
  obtain ⟨hT, hs, hA, hP, hQ, hQ0, hF0⟩ := h
  have e0 : ur_at T (ur_sb T) = 47 := by rw [hs, hT, show S.length = S.length + 0 from rfl, ur_at_r]; rfl
  have e1 : ur_at T (ur_sb T + 1) = 47 := by rw [hs, hT, ur_at_r]; rfl
  unfold ur_au
  rw [decide_eq_true e0, decide_eq_true e1]; rfl
theorem ur_pt_e {a : List Int32} (h : ur_pt S (47 :: 47 :: a) P Q F T) (ha : ∀ c, c ∈ a → ¬ c = 47) (hP0 : P = [] ∨ ∃ r, P = 47 :: r) : ur_e T = S.length + 2 + a.length := by
  have hq := ur_pt_q h
  have au := ur_pt_aut h
  obtain ⟨hT, hs, hA, hP, hQ, hQ0, hF0⟩ := h
  rw [ur_e_t au, hs, hq]
  have e : T = (S ++ [47, 47]) ++ (a ++ (P ++ (Q ++ F))) := by rw [hT]; simp only [List.append_assoc, List.cons_append, List.nil_append]
  have q := ur_find_mid (X := S ++ [47, 47]) (M := a) (Y := P ++ (Q ++ F)) (c := 47) (e := S.length + (47 :: 47 :: a).length + P.length) ha (by simp only [List.length_append, List.length_cons, List.length_nil]; omega) (fun z => ?_)
  · rw [← e] at q
    simp only [List.length_append, List.length_cons, List.length_nil] at q ⊢
    rw [show S.length + 2 = S.length + (0 + 1 + 1) from rfl, q]
  · rcases hP0 with w | ⟨r, w⟩
    · rw [w] at z; simp only [List.length_append, List.length_cons, List.length_nil] at z; omega
    · rw [w]; rfl
theorem ur_pt_4 (h : ur_pt S A P Q F T) (he : ur_e T = S.length + A.length) : ur_C T 4 = P := by
  rw [ur_C_s (ur_B4 T), he, ur_pt_q h]
  have e : T = (S ++ A) ++ (P ++ (Q ++ F)) := by rw [h.1]; simp only [List.append_assoc]
  have q := ur_ex_mid (S ++ A) P (Q ++ F)
  rw [← e, List.length_append] at q
  exact q
theorem ur_pt_5 (h : ur_pt S A P Q F T) : ur_C T 5 = Q.drop 1 := by
  have hf := ur_pt_f h
  have hq := ur_pt_q h
  have hB := ur_B5 T
  obtain ⟨hT, hs, hA, hP, hQ, hQ0, hF0⟩ := h
  match Q, hQ0, hT, hf with
  | [], _, hT, hf =>
    rw [if_pos (by rw [hf, hq]; rfl)] at hB
    exact ur_C_n hB
  | c :: Q, _, hT, hf =>
    rw [List.length_cons] at hf
    rw [if_neg (by omega)] at hB
    rw [ur_C_s hB, hf, hq]
    have e : T = (S ++ (A ++ (P ++ [c]))) ++ (Q ++ F) := by rw [hT]; simp only [List.append_assoc, List.cons_append, List.nil_append]
    have q := ur_ex_mid (S ++ (A ++ (P ++ [c]))) Q F
    rw [← e] at q
    simp only [List.length_append, List.length_singleton] at q
    rw [show S.length + A.length + P.length + 1 = S.length + (A.length + (P.length + 1)) by omega, show S.length + A.length + P.length + (Q.length + 1) = S.length + (A.length + (P.length + 1)) + Q.length by omega]
    exact q
theorem ur_pt_6 (h : ur_pt S A P Q F T) : ur_C T 6 = F.drop 1 := by
  have hf := ur_pt_f h
  have hl := ur_pt_len h
  have hB := ur_B6 T
  obtain ⟨hT, hs, hA, hP, hQ, hQ0, hF0⟩ := h
  match F, hF0, hT, hl with
  | [], _, hT, hl =>
    rw [if_pos (by rw [hf, hl]; rfl)] at hB
    exact ur_C_n hB
  | c :: F, _, hT, hl =>
    rw [List.length_cons] at hl
    rw [if_neg (by omega)] at hB
    rw [ur_C_s hB, hf, hl]
    have e : T = (S ++ (A ++ (P ++ (Q ++ [c])))) ++ (F ++ []) := by rw [hT]; simp only [List.append_assoc, List.cons_append, List.nil_append, List.append_nil]
    have q := ur_ex_mid (S ++ (A ++ (P ++ (Q ++ [c])))) F []
    rw [← e] at q
    simp only [List.length_append, List.length_singleton] at q
    rw [show S.length + A.length + P.length + Q.length + 1 = S.length + (A.length + (P.length + (Q.length + 1))) by omega, show S.length + A.length + P.length + Q.length + (F.length + 1) = S.length + (A.length + (P.length + (Q.length + 1))) + F.length by omega]
    exact q
theorem ur_pt_0 {s : List Int32} (h : ur_pt (s ++ [58]) A P Q F T) : ur_C T 0 = s := by
  obtain ⟨hT, hs, _⟩ := h
  have hB := ur_B0 T
  rw [List.length_append, List.length_singleton] at hs
  rw [if_neg (by omega)] at hB
  rw [ur_C_s hB, hs]
  have e : T = [] ++ (s ++ ([58] ++ (A ++ (P ++ (Q ++ F))))) := by rw [hT]; simp only [List.append_assoc, List.nil_append]
  have q := ur_ex_mid [] s ([58] ++ (A ++ (P ++ (Q ++ F))))
  rw [← e] at q
  rw [List.length_nil, Nat.zero_add] at q
  exact q
theorem ur_pt_0n (h : ur_pt [] A P Q F T) : ur_B T 0 = none := by
  rw [ur_B0, if_pos (show ur_sb T = 0 from h.2.1)]
end
end
section
/-! a composed text is good -/
theorem ur_cl'_mem : ∀ (l : List Int32) (g d v : Nat), ur_cl' g d l = some v → ∀ c, c ∈ l → c = 58 ∨ ur_hk c = true
  | [], _, _, _, _, c, hc => absurd hc List.not_mem_nil
  | x :: l, g, d, v, h, c, hc => by
    rw [ur_cl'] at h
    rcases List.mem_cons.mp hc with e | e
    · subst e
      by_cases z : c = 58
      · exact Or.inl z
      · rw [if_neg z] at h
        split at h
        · cases h
        · split at h
          · rename_i w; exact Or.inr w
          · cases h
    · split at h
      · split at h
        · cases h
        · exact ur_cl'_mem l _ _ _ h c e
      · split at h
        · cases h
        · split at h
          · exact ur_cl'_mem l _ _ _ h c e
          · cases h
theorem ur_cN_mem {l : List Int32} {v : Nat} (h : ur_cN l = some v) : ∀ c, c ∈ l → c = 58 ∨ ur_hk c = true := by
  cases l with
  | nil => intro c hc; exact absurd hc List.not_mem_nil
  | cons x l => exact ur_cl'_mem _ _ _ _ h
theorem ur_gp_e : ∀ (l : List Int32) (g : Nat), ur_gp l = some g → l = l.take g ++ (58 :: 58 :: l.drop (g + 2))
  | [], g, h => by cases h
  | [_], g, h => by cases h
  | c :: d :: l, g, h => by
    rw [ur_gp] at h
    split at h
    · rename_i z
      cases h
      rw [z.1, z.2]; rfl
    · cases hz : ur_gp (d :: l) with
      | none => rw [hz] at h; cases h
      | some i =>
        rw [hz] at h
        simp only [Option.map_some, Option.some.injEq] at h
        subst h
        have := ur_gp_e (d :: l) i hz
        show c :: d :: l = c :: (List.take i (d :: l) ++ 58 :: 58 :: List.drop (i + 2) (d :: l))
        rw [← this]
theorem ur_ad_mem {l : List Int32} (h : ur_ad l = true) : ∀ c, c ∈ l → c = 58 ∨ ur_hk c = true := by
  unfold ur_ad at h
  cases hg : ur_gp l with
  | none =>
    rw [hg] at h
    exact ur_cN_mem (of_decide_eq_true h)
  | some g =>
    rw [hg] at h
    dsimp only at h
    intro c hc
    rw [ur_gp_e l g hg] at hc
    cases c1 : ur_cN (l.take g) with
    | none => rw [c1] at h; cases h
    | some n1 =>
      cases c2 : ur_cN (l.drop (g + 2)) with
      | none => rw [c1, c2] at h; cases h
      | some n2 =>
        rcases List.mem_append.mp hc with w | w
        · exact ur_cN_mem c1 c w
        · rcases List.mem_cons.mp w with w | w
          · exact Or.inl w
          · rcases List.mem_cons.mp w with w | w
            · exact Or.inl w
            · exact ur_cN_mem c2 c w
theorem ur_pv_mem : ∀ (l : List Int32) (n : Nat), (ur_pv n l).isSome = true → ∀ c, c ∈ l → ur_isD c = true
  | [], _, _, c, hc => absurd hc List.not_mem_nil
  | x :: l, n, h, c, hc => by
    rw [ur_pv] at h
    split at h
    · rename_i z
      split at h
      · rcases List.mem_cons.mp hc with e | e
        · subst e; exact z
        · exact ur_pv_mem l _ h c e
      · cases h
    · cases h
theorem ur_gS2_mem : ∀ (l : List Int32), ur_gS2 l = true → ∀ c, c ∈ l → ur_sc c = true
  | [], _, c, hc => absurd hc List.not_mem_nil
  | x :: l, h, c, hc => by
    rw [ur_gS2, Bool.and_eq_true] at h
    rcases List.mem_cons.mp hc with e | e
    · subst e; exact h.1
    · exact ur_gS2_mem l h.2 c e
theorem ur_gS_mem {l : List Int32} (h : ur_gS l = true) : ∀ c, c ∈ l → ur_sc c = true := by
  cases l with
  | nil => cases h
  | cons x l =>
    have h : (ur_isL x && ur_gS2 l) = true := h
    rw [Bool.and_eq_true] at h
    intro c hc
    rcases List.mem_cons.mp hc with e | e
    · subst e; exact ur_isL_sc h.1
    · exact ur_gS2_mem l h.2 c e
/-- a good host -/
def ur_gh (H : List Int32) : Prop := ur_gC 0 H = true ∨ ∃ mid, H = 91 :: (mid ++ [93]) ∧ ur_ad mid = true
theorem ur_gh_ne {H : List Int32} (h : ur_gh H) : ∀ c, c ∈ H → ¬ c = 64 ∧ ¬ c = 47 ∧ ¬ c = 63 ∧ ¬ c = 35 := by
  rcases h with h | ⟨mid, rfl, h⟩
  · intro c hc
    have := ur_gC_ne h c hc
    exact ⟨(this.2.2.2.2.1 (by decide)).2, (this.2.2.2.2.1 (by decide)).1, this.2.2.2.1 (by decide), this.1⟩
  · intro c hc
    rcases List.mem_cons.mp hc with e | e
    · subst e; decide
    · rcases List.mem_append.mp e with e | e
      · rcases ur_ad_mem h c e with w | w
        · subst w; decide
        · have a := ur_hk_all w
          have b := ur_un_ne a.2.2.1
          exact ⟨a.2.2.2.2.2.2.2, b.2.2.1, b.2.2.2.1, b.2.2.2.2.1⟩
      · rw [List.mem_singleton] at e; subst e; decide
/-- an optional list with something behind or ahead of it -/
def ur_ob (o : Option (List Int32)) (c : Int32) : List Int32 := match o with | none => [] | some u => u ++ [c]
def ur_oa (o : Option (List Int32)) (c : Int32) : List Int32 := match o with | none => [] | some u => c :: u
/-- an authority -/
def ur_aut (uo : Option (List Int32)) (H : List Int32) (po : Option (List Int32)) : List Int32 := ur_ob uo 64 ++ (H ++ ur_oa po 58)
def ur_ga (uo : Option (List Int32)) (H : List Int32) (po : Option (List Int32)) : Prop := (∀ u, uo = some u → ur_gC 1 u = true) ∧ ur_gh H ∧ (∀ p, po = some p → (ur_pv 0 p).isSome = true)
theorem ur_ga_ne {uo : Option (List Int32)} {H : List Int32} {po : Option (List Int32)} (h : ur_ga uo H po) : ∀ c, c ∈ ur_aut uo H po → ¬ c = 47 ∧ ¬ c = 63 ∧ ¬ c = 35 := by
  obtain ⟨h1, h2, h3⟩ := h
  intro c hc
  unfold ur_aut at hc
  rcases List.mem_append.mp hc with w | w
  · cases uo with
    | none => exact absurd w List.not_mem_nil
    | some u =>
      rcases List.mem_append.mp w with w | w
      · have := ur_gC_ne (h1 u rfl) c w
        exact ⟨(this.2.2.2.2.1 (by decide)).1, this.2.2.2.1 (by decide), this.1⟩
      · rw [List.mem_singleton] at w; subst w; decide
  · rcases List.mem_append.mp w with w | w
    · exact (ur_gh_ne h2 c w).2
    · cases po with
      | none => exact absurd w List.not_mem_nil
      | some p =>
        rcases List.mem_cons.mp w with w | w
        · subst w; decide
        · have := ur_isD_ne (ur_pv_mem p 0 (h3 p rfl) c w)
          exact ⟨this.2.1, this.2.2.1, this.2.2.2.1⟩
section
variable {S P Q F T H : List Int32} {uo po : Option (List Int32)}
/-- the host and the port of a composed text -/
theorem ur_au_good (h : ur_pt S (47 :: 47 :: ur_aut uo H po) P Q F T) (hg : ur_ga uo H po) (hP0 : P = [] ∨ ∃ r, P = 47 :: r) : ur_g1 T = true ∧ ur_g2 T = true ∧ ur_g3 T = true := by
  have au := ur_pt_aut h
  have he := ur_pt_e h (fun c hc => (ur_ga_ne hg c hc).1) hP0
  have hbk := ur_bk_lt au
  obtain ⟨hT, hs, hA, hP, hQ, hQ0, hF0⟩ := h
  obtain ⟨g1, g2, g3⟩ := hg
  -- the text around the authority
  have eT : T = (S ++ [47, 47]) ++ (ur_ob uo 64 ++ (H ++ (ur_oa po 58 ++ (P ++ (Q ++ F))))) := by
    rw [hT]; unfold ur_aut; simp only [List.append_assoc, List.cons_append, List.nil_append]
  generalize hX : S ++ [47, 47] = X at eT
  generalize hZ : P ++ (Q ++ F) = Z at eT
  have lX : X.length = S.length + 2 := by rw [← hX, List.length_append]; rfl
  have he' : ur_e T = X.length + (ur_ob uo 64).length + H.length + (ur_oa po 58).length := by
    rw [he, lX]; unfold ur_aut; simp only [List.length_append]; omega
  have hsX : ur_sb T + 2 = X.length := by rw [hs, lX]
  have noP : ∀ c, c ∈ ur_oa po 58 → ¬ c = 64 := by
    intro c hc
    cases po with
    | none => exact absurd hc List.not_mem_nil
    | some p =>
      rcases List.mem_cons.mp hc with w | w
      · subst w; decide
      · exact (ur_isD_ne (ur_pv_mem p 0 (g3 p rfl) c w)).1
  -- userinfo
  have hU : ur_h T = X.length + (ur_ob uo 64).length ∧ ur_g1 T = true := by
    have hB1 : ur_B T 1 = if ur_u T = ur_e T then none else some (ur_sb T + 2, ur_u T) := by rw [ur_B1, if_neg (by rw [au]; decide)]
    cases uo with
    | none =>
      have eu : ur_u T = ur_e T := by
        unfold ur_u
        rw [hsX, he']
        have q := ur_find_mid (X := X) (M := H ++ ur_oa po 58) (Y := Z) (c := 64) (e := X.length + (ur_ob none 64).length + H.length + (ur_oa po 58).length) (fun c hc => ?_) (by show _ ≤ X.length + 0 + _ + _; rw [List.length_append]; omega) (fun z => ?_)
        · have e2 : T = X ++ ((H ++ ur_oa po 58) ++ Z) := by rw [eT]; show X ++ ([] ++ _) = _; simp only [List.append_assoc, List.nil_append]
          rw [← e2] at q
          rw [q, List.length_append]; show _ = X.length + 0 + _ + _; omega
        · rcases List.mem_append.mp hc with w | w
          · exact (ur_gh_ne g2 c w).1
          · exact noP c w
        · exfalso
          have z : X.length + (H ++ ur_oa po 58).length < X.length + 0 + H.length + (ur_oa po 58).length := z
          rw [List.length_append] at z; omega
      rw [if_pos eu] at hB1
      refine ⟨?_, ?_⟩
      · unfold ur_h; rw [if_neg (by omega), hsX]; rfl
      · unfold ur_g1; rw [ur_C_n hB1]; rfl
    | some u =>
      have eu : ur_u T = X.length + u.length := by
        unfold ur_u
        rw [hsX, he']
        have e2 : T = X ++ (u ++ (64 :: (H ++ (ur_oa po 58 ++ Z)))) := by rw [eT]; show X ++ ((u ++ [64]) ++ _) = _; simp only [List.append_assoc, List.singleton_append]
        have q := ur_find_mid (X := X) (M := u) (Y := 64 :: (H ++ (ur_oa po 58 ++ Z))) (c := 64) (e := X.length + (ur_ob (some u) 64).length + H.length + (ur_oa po 58).length) (fun c hc => ((ur_gC_ne (g1 u rfl) c hc).2.2.2.2.1 (by decide)).2) (by show _ ≤ X.length + (u ++ [64]).length + _ + _; rw [List.length_append]; omega) (fun _ => rfl)
        rw [← e2] at q
        exact q
      have lu : (ur_ob (some u) 64).length = u.length + 1 := by show (u ++ [64]).length = _; rw [List.length_append]; rfl
      rw [if_neg (by omega)] at hB1
      refine ⟨?_, ?_⟩
      · unfold ur_h; rw [if_pos (by omega), eu, lu]; rfl
      · unfold ur_g1
        rw [ur_C_s hB1, hsX, eu]
        have e2 : T = X ++ (u ++ (64 :: (H ++ (ur_oa po 58 ++ Z)))) := by rw [eT]; show X ++ ((u ++ [64]) ++ _) = _; simp only [List.append_assoc, List.singleton_append]
        have q := ur_ex_mid X u (64 :: (H ++ (ur_oa po 58 ++ Z)))
        rw [← e2] at q
        rw [q]; exact g1 u rfl
  obtain ⟨hh, gg1⟩ := hU
  refine ⟨gg1, ?_⟩
  -- host
  have e1 : T = (X ++ ur_ob uo 64) ++ (H ++ (ur_oa po 58 ++ Z)) := by rw [eT]; simp only [List.append_assoc]
  generalize hX1 : X ++ ur_ob uo 64 = X1 at e1
  have lX1 : X1.length = X.length + (ur_ob uo 64).length := by rw [← hX1, List.length_append]
  rw [← lX1] at hh he'
  have tl : T.length = X1.length + H.length + (ur_oa po 58).length + Z.length := by rw [e1]; simp only [List.length_append]; omega
  have hB2 : ur_B T 2 = some (ur_h T, ur_p T) := by rw [ur_B2, if_neg (by rw [au]; decide)]
  have eb : ur_bro T = ur_br' T (ur_h T) (ur_e T) := by unfold ur_bro; rw [au]; rfl
  have atp : X1.length + H.length < ur_e T → ur_at T (X1.length + H.length) = 58 := by
    intro z
    cases po with
    | none => have z : X1.length + H.length < X1.length + H.length + 0 := by rw [he'] at z; exact z
              omega
    | some p =>
      have e3 : T = (X1 ++ H) ++ (58 :: (p ++ Z)) := by rw [e1]; show X1 ++ (H ++ (58 :: (p ++ Z))) = _; rw [List.append_assoc]
      rw [e3, show X1.length + H.length = (X1 ++ H).length + 0 by rw [List.length_append, Nat.add_zero], ur_at_r]; rfl
  have hmain : ur_p T = X1.length + H.length ∧ ur_g2 T = true := by
    have at0 : ur_at T (ur_h T) = ur_at (H ++ (ur_oa po 58 ++ Z)) 0 := by
      rw [hh]
      have := ur_at_r X1 (H ++ (ur_oa po 58 ++ Z)) 0
      rw [← e1, Nat.add_zero] at this; exact this
    have g2e : ur_g2 T = ur_gH T := by unfold ur_g2; rw [hB2]; rfl
    rcases g2 with g2 | ⟨mid, eH, hm⟩
    · have n91 : ¬ ur_at T (ur_h T) = 91 := by
        intro w
        have lt := hbk w
        rw [at0] at w
        cases H with
        | cons c H => exact (ur_gC_ne g2 c List.mem_cons_self).2.1 w
        | nil =>
          cases po with
          | none => rw [hh, he'] at lt; have lt : X1.length < X1.length + 0 + 0 := lt; omega
          | some p => exact absurd (show (58 : Int32) = 91 from w) (by decide)
      have ep : ur_p T = X1.length + H.length := by
        unfold ur_p ur_p'
        rw [if_neg n91, hh]
        have q := ur_find_mid (X := X1) (M := H) (Y := ur_oa po 58 ++ Z) (c := 58) (e := ur_e T) (fun c hc => (ur_gC_ne g2 c hc).2.2.2.2.2 rfl) (by omega) (fun z => ?_)
        · rw [← e1] at q; exact q
        · have := atp z
          have e3 : T = (X1 ++ H) ++ (ur_oa po 58 ++ Z) := by rw [e1, List.append_assoc]
          rw [e3, show X1.length + H.length = (X1 ++ H).length + 0 by rw [List.length_append, Nat.add_zero], ur_at_r] at this
          exact this
      refine ⟨ep, ?_⟩
      have nb : ur_bro T = false := by rw [eb]; unfold ur_br'; rw [decide_eq_false n91]; rfl
      rw [g2e]
      unfold ur_gH
      rw [nb, if_neg n91, ur_C_s hB2, hh, ep]
      have q := ur_ex_mid X1 H (ur_oa po 58 ++ Z)
      rw [← e1] at q
      rw [q, g2]; rfl
    · have y : ur_at T (ur_h T) = 91 := by rw [at0, eH]; rfl
      have lH : H.length = mid.length + 2 := by rw [eH]; simp only [List.length_cons, List.length_append, List.length_nil]
      have f93 : ur_find T 93 (ur_h T) (ur_e T) = X1.length + (mid.length + 1) := by
        rw [hh]
        have e3 : T = X1 ++ ((91 :: mid) ++ (93 :: (ur_oa po 58 ++ Z))) := by rw [e1, eH]; simp only [List.append_assoc, List.cons_append, List.nil_append]
        have q := ur_find_mid (X := X1) (M := 91 :: mid) (Y := 93 :: (ur_oa po 58 ++ Z)) (c := 93) (e := ur_e T) (fun c hc => ?_) (by rw [List.length_cons]; omega) (fun _ => rfl)
        · rw [← e3] at q; rw [q]; rfl
        · rcases List.mem_cons.mp hc with w | w
          · subst w; decide
          · rcases ur_ad_mem hm c w with v | v
            · subst v; decide
            · exact (ur_hk_all v).2.2.2.2.2.2.1
      have ep : ur_p T = X1.length + H.length := by
        unfold ur_p ur_p'
        rw [if_pos y, f93, if_pos (by omega)]; omega
      refine ⟨ep, ?_⟩
      have nb : ur_bro T = false := by
        rw [eb]; unfold ur_br'
        have epp : ur_p' T (ur_h T) (ur_e T) = X1.length + H.length := ep
        rw [decide_eq_true y, f93, decide_eq_false (by omega), epp, Bool.true_and, Bool.false_or]
        by_cases z : X1.length + H.length < ur_e T
        · rw [decide_eq_true (atp z)]; simp
        · rw [decide_eq_false z]; rfl
      rw [g2e]
      unfold ur_gH
      rw [nb, if_pos y, hh, ep]
      have e3 : T = (X1 ++ [91]) ++ (mid ++ (93 :: (ur_oa po 58 ++ Z))) := by rw [e1, eH]; simp only [List.append_assoc, List.cons_append, List.nil_append]
      have q := ur_ex_mid (X1 ++ [91]) mid (93 :: (ur_oa po 58 ++ Z))
      rw [← e3, List.length_append, List.length_singleton] at q
      rw [lH, show X1.length + (mid.length + 2) - 1 = X1.length + 1 + mid.length by omega, q, hm]; rfl
  obtain ⟨ep, gg2⟩ := hmain
  refine ⟨gg2, ?_⟩
  -- port
  have hB3 : ur_B T 3 = if ur_hp T = true then some (ur_p T + 1, ur_e T) else none := by rw [ur_B3, if_neg (by rw [au]; decide)]
  unfold ur_g3
  cases po with
  | none =>
    have he2 : ur_e T = X1.length + H.length := he'
    have hp : ur_hp T = false := by unfold ur_hp; rw [decide_eq_false (by omega)]; rfl
    rw [hB3, if_neg (by rw [hp]; decide)]; rfl
  | some p =>
    have he2 : ur_e T = X1.length + H.length + (p.length + 1) := he'
    have hp : ur_hp T = true := by
      unfold ur_hp
      rw [ep, decide_eq_true (by omega), decide_eq_true (atp (by omega))]; rfl
    rw [if_pos hp] at hB3
    rw [ur_C_s hB3, ep, he2]
    have e3 : T = (X1 ++ (H ++ [58])) ++ (p ++ Z) := by rw [e1]; show X1 ++ (H ++ (58 :: (p ++ Z))) = _; simp only [List.append_assoc, List.cons_append, List.nil_append]
    have q := ur_ex_mid (X1 ++ (H ++ [58])) p Z
    rw [← e3] at q
    simp only [List.length_append, List.length_singleton] at q
    rw [show X1.length + H.length + 1 = X1.length + (H.length + 1) by omega, show X1.length + H.length + (p.length + 1) = X1.length + (H.length + 1) + p.length by omega, q, g3 p rfl, Bool.or_true]
end
/-- the parts of a text: scheme, authority, path, query, fragment -/
def ur_cmp (so : Option (List Int32)) (A P : List Int32) (qo fo : Option (List Int32)) : List Int32 := ur_ob so 58 ++ (A ++ (P ++ (ur_oa qo 63 ++ ur_oa fo 35)))
theorem ur_cmp_good {so qo fo uo po : Option (List Int32)} {A P H : List Int32} (hs : ∀ s, so = some s → ur_gS s = true) (hA : (A = [] ∧ ¬ ur_2s P) ∨ (A = 47 :: 47 :: ur_aut uo H po ∧ ur_ga uo H po ∧ (P = [] ∨ ∃ r, P = 47 :: r)))
    (hn : so = none → A = [] → ur_NP P) (hP : ur_gC 2 P = true) (hq : ∀ q, qo = some q → ur_gC 3 q = true) (hf : ∀ f, fo = some f → ur_gC 3 f = true) : ur_good (ur_cmp so A P qo fo) := by
  have nP : ∀ c, c ∈ P → ¬ c = 63 ∧ ¬ c = 35 := fun c hc => ⟨(ur_gC_ne hP c hc).2.2.2.1 (by decide), (ur_gC_ne hP c hc).1⟩
  have nA : ∀ c, c ∈ A → ¬ c = 63 ∧ ¬ c = 35 := by
    rcases hA with ⟨rfl, _⟩ | ⟨rfl, hg, _⟩
    · intro c hc; exact absurd hc List.not_mem_nil
    · intro c hc
      rcases List.mem_cons.mp hc with w | w
      · subst w; decide
      · rcases List.mem_cons.mp w with w | w
        · subst w; decide
        · exact (ur_ga_ne hg c w).2
  have nQ : ∀ c, c ∈ ur_oa qo 63 → ¬ c = 35 := by
    intro c hc
    cases qo with
    | none => exact absurd hc List.not_mem_nil
    | some q =>
      rcases List.mem_cons.mp hc with w | w
      · subst w; decide
      · exact (ur_gC_ne (hq q rfl) c w).1
  have hQ0 : ur_oa qo 63 = [] ∨ ur_at (ur_oa qo 63) 0 = 63 := by
    cases qo with
    | none => exact Or.inl rfl
    | some q => exact Or.inr rfl
  have hF0 : ur_oa fo 35 = [] ∨ ur_at (ur_oa fo 35) 0 = 35 := by
    cases fo with
    | none => exact Or.inl rfl
    | some q => exact Or.inr rfl
  have tail : ur_ns (ur_oa qo 63 ++ ur_oa fo 35) := by
    cases qo with
    | none =>
      cases fo with
      | none => exact trivial
      | some f => exact Or.inl (Or.inr (Or.inr rfl))
    | some q => exact Or.inl (Or.inr (Or.inl rfl))
  have hsb : ur_sb (ur_cmp so A P qo fo) = (ur_ob so 58).length := by
    cases so with
    | some s =>
      show ur_sg 0 ((s ++ [58]) ++ _) = (s ++ [58]).length
      rw [List.append_assoc, List.singleton_append, ur_sg_s s _ 0 (fun c hc => by have := ur_sc_ne (ur_gS_mem (hs s rfl) c hc); exact ⟨this.1, this.2.1, this.2.2.1, this.2.2.2.1⟩), List.length_append]
      simp
    | none =>
      show ur_sg 0 (A ++ (P ++ (ur_oa qo 63 ++ ur_oa fo 35))) = 0
      refine ur_sg_n _ 0 ?_
      rcases hA with ⟨rfl, _⟩ | ⟨rfl, _, _⟩
      · exact ur_ns_NP P _ (hn rfl rfl) (fun _ _ => Or.inr trivial) tail
      · exact Or.inl (Or.inl rfl)
  have pt : ur_pt (ur_ob so 58) A P (ur_oa qo 63) (ur_oa fo 35) (ur_cmp so A P qo fo) := ⟨rfl, hsb, nA, nP, nQ, hQ0, hF0⟩
  generalize hT : ur_cmp so A P qo fo = T at pt
  have g0 : ur_g0 T = true := by
    unfold ur_g0
    cases so with
    | none => rw [ur_pt_0n pt]; rfl
    | some s => rw [ur_pt_0 pt, hs s rfl, Bool.or_true]
  have g5 : ur_g5 T = true := by
    unfold ur_g5
    rw [ur_pt_5 pt]
    cases qo with
    | none => rfl
    | some q => exact hq q rfl
  have g6 : ur_g6 T = true := by
    unfold ur_g6
    rw [ur_pt_6 pt]
    cases fo with
    | none => rfl
    | some q => exact hf q rfl
  rcases hA with ⟨rfl, h2⟩ | ⟨rfl, hg, hP0⟩
  · have au := ur_pt_auf pt h2
    have he : ur_e T = (ur_ob so 58).length + ([] : List Int32).length := by rw [ur_e_f au, pt.2.1]; rfl
    obtain ⟨c1, c2, c3, _⟩ := ur_c7f au
    refine ⟨g0, ?_, ?_, ?_, ?_, g5, g6⟩
    · unfold ur_g1; rw [c1]; rfl
    · unfold ur_g2; rw [ur_B2, if_pos au]; rfl
    · unfold ur_g3; rw [ur_B3, if_pos au]; rfl
    · unfold ur_g4; rw [ur_pt_4 pt he]; exact hP
  · have he := ur_pt_e pt (fun c hc => (ur_ga_ne hg c hc).1) hP0
    obtain ⟨a1, a2, a3⟩ := ur_au_good pt hg hP0
    refine ⟨g0, a1, a2, a3, ?_, g5, g6⟩
    unfold ur_g4
    rw [ur_pt_4 pt (by rw [he, List.length_cons, List.length_cons]; omega)]; exact hP
end
section
/-! the parts of a good text -/
section
variable {T : List Int32}
theorem ur_C0_g (hg : ur_good T) (h : (ur_B T 0).isSome = true) : ur_gS (ur_C T 0) = true := by
  have := hg.1
  unfold ur_g0 at this
  rw [h] at this; exact this
theorem ur_C2_g (hg : ur_good T) (au : ur_au T = true) : ur_gh (ur_C T 2) := by
  have hB : ur_B T 2 = some (ur_h T, ur_p T) := by rw [ur_B2, if_neg (by rw [au]; decide)]
  have g2 := hg.2.2.1
  unfold ur_g2 at g2
  rw [hB] at g2
  have g2 : ur_gH T = true := g2
  unfold ur_gH at g2
  rw [Bool.and_eq_true, Bool.not_eq_true'] at g2
  by_cases y : ur_at T (ur_h T) = 91
  · rw [if_pos y] at g2
    obtain ⟨q0, q1, q2, q3⟩ := ur_close au y g2.1
    have e1 := ur_e_le T
    have e2 := ur_p_hi au
    refine Or.inr ⟨_, ?_, g2.2⟩
    rw [ur_C_s hB, ur_ex_cons (by omega) (by omega), y]
    have e3 : ur_p T = (ur_p T - 1) + 1 := by omega
    have e93 : ur_at T (ur_p T - 1) = 93 := by rw [q1, Nat.add_sub_cancel]; exact ur_find_is (ur_h_hi au) q0
    have q := ur_ex_snoc (t := T) (a := ur_h T + 1) (b := ur_p T - 1) q2 (by omega)
    rw [← e3, e93] at q
    rw [q]
  · rw [if_neg y] at g2
    exact Or.inl g2.2
theorem ur_p_e (hg : ur_good T) (au : ur_au T = true) (hp : ur_hp T = false) : ur_p T = ur_e T := by
  have hB : ur_B T 2 = some (ur_h T, ur_p T) := by rw [ur_B2, if_neg (by rw [au]; decide)]
  have e2 := ur_p_hi au
  have g2 := hg.2.2.1
  unfold ur_g2 at g2
  rw [hB] at g2
  have g2 : ur_gH T = true := g2
  unfold ur_gH at g2
  rw [Bool.and_eq_true, Bool.not_eq_true'] at g2
  rcases Nat.lt_or_ge (ur_p T) (ur_e T) with w | w
  · exfalso
    have n58 : ¬ ur_at T (ur_p T) = 58 := by
      intro v
      unfold ur_hp at hp
      rw [decide_eq_true w, decide_eq_true v] at hp; cases hp
    by_cases y : ur_at T (ur_h T) = 91
    · obtain ⟨_, _, _, q3⟩ := ur_close au y g2.1
      rcases q3 with v | v
      · omega
      · exact n58 v
    · have ep : ur_p T = ur_find T 58 (ur_h T) (ur_e T) := by unfold ur_p ur_p'; rw [if_neg y]
      rw [ep] at w n58
      exact n58 (ur_find_is (ur_h_hi au) w)
  · omega
/-- the authority, put together -/
theorem ur_C7 (hg : ur_good T) (au : ur_au T = true) : ur_C T 7 = ur_aut (if (ur_B T 1).isSome = true then some (ur_C T 1) else none) (ur_C T 2) (if (ur_B T 3).isSome = true then some (ur_C T 3) else none) := by
  have hB7 : ur_B T 7 = some (ur_sb T + 2, ur_e T) := by rw [ur_B7, if_neg (by rw [au]; decide)]
  have hB2 : ur_B T 2 = some (ur_h T, ur_p T) := by rw [ur_B2, if_neg (by rw [au]; decide)]
  have hB1 : ur_B T 1 = if ur_u T = ur_e T then none else some (ur_sb T + 2, ur_u T) := by rw [ur_B1, if_neg (by rw [au]; decide)]
  have hB3 : ur_B T 3 = if ur_hp T = true then some (ur_p T + 1, ur_e T) else none := by rw [ur_B3, if_neg (by rw [au]; decide)]
  have a1 := ur_e_lo2 au
  have a2 := ur_u_lo au
  have a3 := ur_u_hi au
  have a4 := ur_h_lo au
  have a5 := ur_h_hi au
  have a6 := ur_p_lo au
  have a7 := ur_p_hi au
  have a8 := ur_e_le T
  have e1 : ur_ex T (ur_sb T + 2) (ur_e T) = ur_ob (if (ur_B T 1).isSome = true then some (ur_C T 1) else none) 64 ++ ur_ex T (ur_h T) (ur_e T) := by
    by_cases z : ur_u T = ur_e T
    · rw [if_pos z] at hB1
      rw [hB1, if_neg (by decide)]
      have : ur_h T = ur_sb T + 2 := by unfold ur_h; rw [if_neg (by omega)]
      rw [this]; rfl
    · rw [if_neg z] at hB1
      have hh : ur_h T = ur_u T + 1 := by unfold ur_h; rw [if_pos (by omega)]
      have e64 : ur_at T (ur_u T) = 64 := ur_find_is (ur_e_lo2 au) (by show ur_u T < _; omega)
      rw [ur_C_s hB1, hB1, if_pos (show (some (ur_sb T + 2, ur_u T)).isSome = true from rfl), hh]
      show _ = (ur_ex T (ur_sb T + 2) (ur_u T) ++ [64]) ++ _
      rw [← ur_ex_app (b := ur_u T) a2 a3 a8, ur_ex_cons (a := ur_u T) (by omega) a8, e64, List.append_assoc, List.singleton_append]
  have e2 : ur_ex T (ur_p T) (ur_e T) = ur_oa (if (ur_B T 3).isSome = true then some (ur_C T 3) else none) 58 := by
    cases z : ur_hp T
    · rw [if_neg (by rw [z]; decide)] at hB3
      rw [hB3, if_neg (by decide), ur_p_e hg au z, ur_ex_nil (Nat.le_refl _)]; rfl
    · rw [if_pos z] at hB3
      rw [ur_C_s hB3, hB3, if_pos (show (some (ur_p T + 1, ur_e T)).isSome = true from rfl)]
      unfold ur_hp at z
      rw [Bool.and_eq_true, decide_eq_true_eq, decide_eq_true_eq] at z
      rw [ur_ex_cons z.1 a8, z.2]; rfl
  rw [ur_C_s hB7, e1]
  unfold ur_aut
  rw [← e2, ur_C_s hB2, ur_ex_app a6 a7 a8]
theorem ur_C4_au (au : ur_au T = true) : ur_C T 4 = [] ∨ ∃ r, ur_C T 4 = 47 :: r := by
  have e1 := ur_e_hi T
  have e2 := ur_q_le T
  rw [ur_C_s (ur_B4 T)]
  rcases Nat.lt_or_ge (ur_e T) (ur_q T) with w | w
  · have : ur_at T (ur_e T) = 47 := by rw [ur_e_t au] at w ⊢; exact ur_find_is (ur_au_q au) w
    exact Or.inr ⟨_, by rw [ur_ex_cons w e2, this]⟩
  · exact Or.inl (ur_ex_nil w)
theorem ur_C4_2s (au : ur_au T = false) : ¬ ur_2s (ur_C T 4) := by
  intro ⟨r, hr⟩
  have e2 := ur_q_le T
  have l4 := ur_l4 T
  have hC := ur_C_s (ur_B4 T)
  rw [hr] at l4
  simp only [List.length_cons] at l4
  have a0 : ur_at (ur_C T 4) 0 = 47 := by rw [hr]; rfl
  have a1 : ur_at (ur_C T 4) 1 = 47 := by rw [hr]; rfl
  rw [hC, ur_ex_at (by omega), ur_e_f au] at a0 a1
  unfold ur_au at au
  rw [decide_eq_true (show ur_at T (ur_sb T) = 47 from a0), decide_eq_true (show ur_at T (ur_sb T + 1) = 47 from a1)] at au
  cases au
theorem ur_C4_NP (hg : ur_good T) (h0 : (ur_B T 0).isSome = false) (au : ur_au T = false) : ur_NP (ur_C T 4) := by
  have hsb : ur_sb T = 0 := by
    have hB := ur_B0 T
    by_cases z : ur_sb T = 0
    · exact z
    · rw [if_neg z] at hB; rw [hB] at h0; cases h0
  have e2 := ur_q_le T
  have hC := ur_C_s (ur_B4 T)
  rw [ur_e_f au, hsb] at hC
  have g4 := hg.2.2.2.2.1
  unfold ur_g4 at g4
  refine ur_NP_ns _ (ur_ex T (ur_q T) T.length) (fun c hc => ⟨(ur_gC_ne g4 c hc).2.2.2.1 (by decide), (ur_gC_ne g4 c hc).1⟩) ?_
  rw [hC, ur_ex_app (Nat.zero_le _) e2 (Nat.le_refl _), ur_ex_full]
  exact ur_ns_sg T 0 hsb
theorem ur_ev_good (hg : ur_good T) : ∀ k, k < 7 → k ≠ 3 → ur_ev (ur_C T k) = true := by
  intro k hk hk3
  have : k = 0 ∨ k = 1 ∨ k = 2 ∨ k = 4 ∨ k = 5 ∨ k = 6 := by omega
  rcases this with rfl | rfl | rfl | rfl | rfl | rfl
  · cases h : (ur_B T 0).isSome
    · have : ur_B T 0 = none := by cases q : ur_B T 0 with | none => rfl | some p => rw [q] at h; cases h
      rw [ur_C_n this]; rfl
    · exact ur_ev_no _ (fun c hc => (ur_sc_ne (ur_gS_mem (ur_C0_g hg h) c hc)).2.2.2.2)
  · exact ur_ev_gC _ hg.2.1
  · cases au : ur_au T
    · rw [(ur_c7f au).2.1]; rfl
    · rcases ur_C2_g hg au with h | ⟨mid, e, h⟩
      · exact ur_ev_gC _ h
      · rw [e]
        refine ur_ev_no _ (fun c hc => ?_)
        rcases List.mem_cons.mp hc with w | w
        · subst w; decide
        · rcases List.mem_append.mp w with w | w
          · rcases ur_ad_mem h c w with v | v
            · subst v; decide
            · exact (ur_hk_all v).2.2.2.1
          · rw [List.mem_singleton] at w; subst w; decide
  · exact ur_ev_gC _ hg.2.2.2.2.1
  · exact ur_ev_gC _ hg.2.2.2.2.2.1
  · exact ur_ev_gC _ hg.2.2.2.2.2.2
end
/-! lowering without escapes -/
theorem ur_dec_map : ∀ (l : List Int32), (∀ c, c ∈ l → ¬ c = 37) → ur_dec true l = l.map ur_lc
  | [], _ => rfl
  | c :: l, h => by
    rw [ur_dec_p c l (Or.inl (h c List.mem_cons_self)), ur_dec_map l (fun d hd => h d (List.mem_cons_of_mem _ hd))]
    rfl
theorem ur_gS2_map : ∀ (l : List Int32), ur_gS2 l = true → ur_gS2 (l.map ur_lc) = true
  | [], _ => rfl
  | c :: l, h => by
    rw [ur_gS2, Bool.and_eq_true] at h
    show ur_gS2 (ur_lc c :: l.map ur_lc) = true
    rw [ur_gS2, Bool.and_eq_true]
    exact ⟨ur_lc_sc h.1, ur_gS2_map l h.2⟩
theorem ur_gS_dec {l : List Int32} (h : ur_gS l = true) : ur_gS (ur_dec true l) = true := by
  rw [ur_dec_map l (fun c hc => (ur_sc_ne (ur_gS_mem h c hc)).2.2.2.2)]
  cases l with
  | nil => cases h
  | cons c l =>
    have h : (ur_isL c && ur_gS2 l) = true := h
    rw [Bool.and_eq_true] at h
    show (ur_isL (ur_lc c) && ur_gS2 (l.map ur_lc)) = true
    rw [Bool.and_eq_true]
    exact ⟨ur_lc_isL h.1, ur_gS2_map l h.2⟩
theorem ur_lc58 {c : Int32} (h : c = 58 ∨ ur_hk c = true) : (ur_lc c = 58 ↔ c = 58) ∧ (¬ c = 58 → ur_hk (ur_lc c) = ur_hk c) := by
  rcases h with h | h
  · subst h
    exact ⟨⟨fun _ => rfl, fun _ => rfl⟩, fun z => absurd rfl z⟩
  · have a := ur_hk_all h
    have b := ur_hk_all a.2.1
    exact ⟨⟨fun z => absurd z b.2.2.2.2.1, fun z => absurd z a.2.2.2.2.1⟩, fun _ => by rw [h, a.2.1]⟩
theorem ur_cl'_map : ∀ (l : List Int32) (g d : Nat), (∀ c, c ∈ l → c = 58 ∨ ur_hk c = true) → ur_cl' g d (l.map ur_lc) = ur_cl' g d l
  | [], g, d, _ => rfl
  | c :: l, g, d, h => by
    have q := ur_lc58 (h c List.mem_cons_self)
    have hl := fun x hx => h x (List.mem_cons_of_mem c hx)
    show ur_cl' g d (ur_lc c :: l.map ur_lc) = _
    rw [ur_cl', ur_cl']
    by_cases z : c = 58
    · rw [if_pos (q.1.mpr z), if_pos z, ur_cl'_map l _ _ hl]
    · rw [if_neg (fun w => z (q.1.mp w)), if_neg z, q.2 z, ur_cl'_map l _ _ hl]
theorem ur_cN_map (l : List Int32) (h : ∀ c, c ∈ l → c = 58 ∨ ur_hk c = true) : ur_cN (l.map ur_lc) = ur_cN l := by
  cases l with
  | nil => rfl
  | cons c l => exact ur_cl'_map (c :: l) 1 0 h
theorem ur_gp_map : ∀ (l : List Int32), (∀ c, c ∈ l → c = 58 ∨ ur_hk c = true) → ur_gp (l.map ur_lc) = ur_gp l
  | [], _ => rfl
  | [_], _ => rfl
  | c :: d :: l, h => by
    have q := (ur_lc58 (h c List.mem_cons_self)).1
    have p := (ur_lc58 (h d (List.mem_cons_of_mem _ List.mem_cons_self))).1
    have ih := ur_gp_map (d :: l) (fun x hx => h x (List.mem_cons_of_mem c hx))
    show ur_gp (ur_lc c :: ur_lc d :: l.map ur_lc) = _
    have ih : ur_gp (ur_lc d :: l.map ur_lc) = ur_gp (d :: l) := ih
    rw [ur_gp, ur_gp, ih]
    by_cases z : c = 58 ∧ d = 58
    · rw [if_pos ⟨q.mpr z.1, p.mpr z.2⟩, if_pos z]
    · rw [if_neg (fun w => z ⟨q.mp w.1, p.mp w.2⟩), if_neg z]
theorem ur_ad_map {l : List Int32} (h : ur_ad l = true) : ur_ad (l.map ur_lc) = true := by
  have hm := ur_ad_mem h
  unfold ur_ad at h ⊢
  rw [ur_gp_map l hm]
  cases hg : ur_gp l with
  | none =>
    rw [hg] at h
    dsimp only at h ⊢
    rw [ur_cN_map l hm]; exact h
  | some g =>
    rw [hg] at h
    dsimp only at h ⊢
    rw [← List.map_take, ← List.map_drop, ur_cN_map _ (fun c hc => hm c (List.mem_of_mem_take hc)), ur_cN_map _ (fun c hc => hm c (List.mem_of_mem_drop hc))]
    exact h
theorem ur_gh_dec {H : List Int32} (h : ur_gh H) : ur_gh (ur_dec true H) := by
  rcases h with h | ⟨mid, e, h⟩
  · exact Or.inl (ur_gC_dec _ _ (Nat.lt_succ_self _) h)
  · refine Or.inr ⟨mid.map ur_lc, ?_, ur_ad_map h⟩
    have no : ∀ c, c ∈ H → ¬ c = 37 := by
      intro c hc
      rw [e] at hc
      rcases List.mem_cons.mp hc with w | w
      · subst w; decide
      · rcases List.mem_append.mp w with w | w
        · rcases ur_ad_mem h c w with v | v
          · subst v; decide
          · exact (ur_hk_all v).2.2.2.1
        · rw [List.mem_singleton] at w; subst w; decide
    rw [ur_dec_map H no, e]
    simp only [List.map_cons, List.map_append, List.map_nil]
    rfl
/-! how long a clean path is -/
theorem ur_clean_lt (l : List Int32) : (ur_clean true l).length ≤ l.length := by
  cases l with
  | nil => exact Nat.le_refl _
  | cons c l =>
    by_cases z : c = 47
    · have e : ur_clean true (c :: l) = ur_out true (ur_cl [] [] l) := if_pos z
      have q := ur_cl_len l [] []
      simp only [ur_flat, List.length_nil] at q
      rw [e]
      unfold ur_out
      rw [if_neg (by simp), List.length_cons]; omega
    · rw [ur_clean_n47 z]; exact Nat.le_refl _
/-- the first member is there and not empty -/
def ur_A1 (M : List (List Int32)) : Prop := ∃ x N, M = x :: N ∧ x ≠ []
theorem ur_A1_hd {M : List (List Int32)} (h : ur_A1 M) : ur_hd0 M = false := by
  obtain ⟨x, N, rfl, hx⟩ := h
  cases x with
  | nil => exact absurd rfl hx
  | cons c x => rfl
theorem ur_A1_len {M : List (List Int32)} (h : ur_A1 M) : 2 ≤ (ur_flat M).length := by
  obtain ⟨x, N, rfl, hx⟩ := h
  cases x with
  | nil => exact absurd rfl hx
  | cons c x =>
    show 2 ≤ (47 :: (c :: x ++ ur_flat N)).length
    simp only [List.length_cons, List.length_append]; omega
theorem ur_A1_nx {b : Bool} {M : List (List Int32)} {cur : List Int32} (h : ur_A1 M) : ur_A1 (ur_nx b M cur) ∨ (ur_flat (ur_nx b M cur)).length + 2 ≤ (ur_flat M).length + 1 + cur.length := by
  have hl := ur_A1_len h
  obtain ⟨x, N, rfl, hx⟩ := h
  have app : ∀ y, ur_A1 ((x :: N) ++ [y]) := fun y => ⟨x, N ++ [y], rfl, hx⟩
  unfold ur_nx
  split
  · split
    · exact Or.inl (app _)
    · exact Or.inl ⟨x, N, rfl, hx⟩
  · split
    · rename_i c2
      cases N with
      | nil =>
        refine Or.inr ?_
        rw [c2]
        split
        · show ([] : List Int32).length + 1 + 2 ≤ _
          simp only [List.length_nil, List.length_cons] at hl ⊢; omega
        · show ([] : List Int32).length + 2 ≤ _
          simp only [List.length_nil, List.length_cons] at hl ⊢; omega
      | cons y N =>
        have e : (x :: y :: N).dropLast = x :: (y :: N).dropLast := rfl
        rw [e]
        split
        · exact Or.inl ⟨x, _, rfl, hx⟩
        · exact Or.inl ⟨x, _, rfl, hx⟩
    · exact Or.inl (app _)
theorem ur_cl_A1 : ∀ (x : List Int32) (M : List (List Int32)) (cur : List Int32), ur_A1 M → ur_A1 (ur_cl M cur x) ∨ (ur_flat (ur_cl M cur x)).length + 2 ≤ (ur_flat M).length + 1 + cur.length + x.length
  | [], M, cur, h => ur_A1_nx h
  | c :: x, M, cur, h => by
    rw [ur_cl, List.length_cons]
    by_cases z : c = 47
    · rw [if_pos z]
      rcases ur_A1_nx (b := false) (cur := cur) h with q | q
      · have n := ur_nx_len (b := false) (M := M) (cur := cur)
        rcases ur_cl_A1 x _ [] q with w | w
        · exact Or.inl w
        · rw [List.length_nil] at w; exact Or.inr (by omega)
      · have w := ur_cl_len x (ur_nx false M cur) []
        rw [List.length_nil] at w
        exact Or.inr (by omega)
    · rw [if_neg z]
      rcases ur_cl_A1 x M (cur ++ [c]) h with w | w
      · exact Or.inl w
      · rw [List.length_append, List.length_singleton] at w; exact Or.inr (by omega)
/-- in the first segment, with something in it -/
theorem ur_cl_fs : ∀ (x cur : List Int32), cur ≠ [] → ur_hd0 (ur_cl [] cur x) = false ∨ (ur_flat (ur_cl [] cur x)).length + 2 ≤ 1 + cur.length + x.length
  | [], cur, h => by
    refine Or.inl ?_
    show ur_hd0 (ur_nx true [] cur) = false
    unfold ur_nx
    split
    · rfl
    · split
      · rfl
      · cases cur with
        | nil => exact absurd rfl h
        | cons c cur => rfl
  | c :: x, cur, h => by
    rw [ur_cl, List.length_cons]
    by_cases z : c = 47
    · rw [if_pos z]
      have hc : 1 ≤ cur.length := by
        cases cur with
        | nil => exact absurd rfl h
        | cons d cur => simp
      by_cases c1 : cur = [46] ∨ cur = [46, 46]
      · have e : ur_nx false [] cur = [] := by
          unfold ur_nx
          rcases c1 with c1 | c1
          · rw [if_pos c1]; rfl
          · rw [if_neg (by rw [c1]; decide), if_pos c1]; rfl
        rw [e]
        have w := ur_cl_len x [] []
        simp only [ur_flat, List.length_nil] at w
        exact Or.inr (by omega)
      · have e : ur_nx false [] cur = [cur] := by
          unfold ur_nx
          rw [if_neg (fun w => c1 (Or.inl w)), if_neg (fun w => c1 (Or.inr w))]; rfl
        rw [e]
        rcases ur_cl_A1 x [cur] [] ⟨cur, [], rfl, h⟩ with w | w
        · exact Or.inl (ur_A1_hd w)
        · have lf : (ur_flat [cur]).length = cur.length + 1 := by show (47 :: (cur ++ [])).length = _; rw [List.append_nil, List.length_cons]
          rw [lf, List.length_nil] at w
          exact Or.inr (by omega)
    · rw [if_neg z]
      rcases ur_cl_fs x (cur ++ [c]) (by simp) with w | w
      · exact Or.inl w
      · rw [List.length_append, List.length_singleton] at w; exact Or.inr (by omega)
theorem ur_clean_lf {l : List Int32} (h : ¬ ur_2s l) : (ur_clean false l).length ≤ l.length := by
  cases l with
  | nil => exact Nat.le_refl _
  | cons c l =>
    by_cases z : c = 47
    · have e : ur_clean false (c :: l) = ur_out false (ur_cl [] [] l) := if_pos z
      rw [e]
      unfold ur_out
      have q := ur_cl_len l [] []
      simp only [ur_flat, List.length_nil] at q
      split
      · rename_i w
        cases l with
        | nil => exact absurd (show false = true from w.2) (by decide)
        | cons d l =>
          have d47 : ¬ d = 47 := fun v => h ⟨l, by rw [z, v]⟩
          have e2 : ur_cl [] [] (d :: l) = ur_cl [] [d] l := by rw [ur_cl, if_neg d47]; rfl
          rw [e2] at w ⊢
          rcases ur_cl_fs l [d] (by simp) with v | v
          · rw [v] at w; exact absurd w.2 (by decide)
          · simp only [List.length_cons, List.length_nil] at v ⊢; omega
      · rw [List.length_cons]; omega
    · rw [ur_clean_n47 z]; exact Nat.le_refl _
end
section
/-! normal forms and resolved texts are good -/
section
variable {T : List Int32}
theorem ur_sn {o : Option (Nat × Nat)} (h : o.isSome = false) : o = none := by
  cases o with
  | none => rfl
  | some p => cases h
theorem ur_nm_cmp (T : List Int32) : ur_nm T = ur_cmp (if (ur_B T 0).isSome = true then some (ur_dec true (ur_C T 0)) else none)
    (if ur_au T = true then 47 :: 47 :: ur_aut (if (ur_B T 1).isSome = true then some (ur_dec false (ur_C T 1)) else none) (ur_dec true (ur_C T 2)) (if (ur_C T 3).isEmpty = false then some (ur_C T 3) else none) else [])
    (ur_clean (ur_au T) (ur_dec false (ur_C T 4)))
    (if (ur_B T 5).isSome = true then some (ur_dec false (ur_C T 5)) else none) (if (ur_B T 6).isSome = true then some (ur_dec false (ur_C T 6)) else none) := by
  unfold ur_nm ur_cmp ur_n0 ur_n7 ur_n4 ur_n5 ur_n6 ur_n1 ur_n2 ur_n3 ur_aut
  have a0 : ur_on (ur_B T 0).isSome (ur_dec true (ur_C T 0) ++ [58]) = ur_ob (if (ur_B T 0).isSome = true then some (ur_dec true (ur_C T 0)) else none) 58 := by
    cases (ur_B T 0).isSome <;> rfl
  have a1 : ur_on (ur_B T 1).isSome (ur_dec false (ur_C T 1) ++ [64]) = ur_ob (if (ur_B T 1).isSome = true then some (ur_dec false (ur_C T 1)) else none) 64 := by
    cases (ur_B T 1).isSome <;> rfl
  have a3 : ur_on (!(ur_C T 3).isEmpty) (58 :: ur_C T 3) = ur_oa (if (ur_C T 3).isEmpty = false then some (ur_C T 3) else none) 58 := by
    cases (ur_C T 3).isEmpty <;> rfl
  have a5 : ur_on (ur_B T 5).isSome (63 :: ur_dec false (ur_C T 5)) = ur_oa (if (ur_B T 5).isSome = true then some (ur_dec false (ur_C T 5)) else none) 63 := by
    cases (ur_B T 5).isSome <;> rfl
  have a6 : ur_on (ur_B T 6).isSome (35 :: ur_dec false (ur_C T 6)) = ur_oa (if (ur_B T 6).isSome = true then some (ur_dec false (ur_C T 6)) else none) 35 := by
    cases (ur_B T 6).isSome <;> rfl
  rw [a0, a1, a3, a5, a6]
  cases ur_au T <;> rfl
theorem ur_nm_good (hg : ur_good T) : ur_good (ur_nm T) := by
  rw [ur_nm_cmp]
  have g1 : ur_gC 1 (ur_C T 1) = true := hg.2.1
  have g4 : ur_gC 2 (ur_C T 4) = true := hg.2.2.2.2.1
  have g5 : ur_gC 3 (ur_C T 5) = true := hg.2.2.2.2.2.1
  have g6 : ur_gC 3 (ur_C T 6) = true := hg.2.2.2.2.2.2
  have d4 : ur_gC 2 (ur_dec false (ur_C T 4)) = true := ur_gC_dec _ _ (Nat.lt_succ_self _) g4
  refine ur_cmp_good (uo := if (ur_B T 1).isSome = true then some (ur_dec false (ur_C T 1)) else none) (H := ur_dec true (ur_C T 2)) (po := if (ur_C T 3).isEmpty = false then some (ur_C T 3) else none) (fun s hs => ?_) ?_ (fun hs hA => ?_) (ur_gC_clean rfl rfl _ d4) (fun q hq => ?_) (fun q hq => ?_)
  · split at hs
    · rename_i z
      cases hs; exact ur_gS_dec (ur_C0_g hg z)
    · cases hs
  · cases au : ur_au T
    · exact Or.inl ⟨if_neg (by decide), fun h => ur_clean_2s h⟩
    · refine Or.inr ⟨if_pos rfl, ⟨fun u hu => ?_, ur_gh_dec (ur_C2_g hg au), fun p hp => ?_⟩, ?_⟩
      · split at hu
        · cases hu; exact ur_gC_dec _ _ (Nat.lt_succ_self _) g1
        · cases hu
      · split at hp
        · rename_i z
          cases hp
          have g3 := hg.2.2.2.1
          unfold ur_g3 at g3
          rw [ur_3s z] at g3; exact g3
        · cases hp
      · rcases ur_C4_au au with h | ⟨r, h⟩
        · rw [h]; exact Or.inl rfl
        · obtain ⟨r', e⟩ := ur_dec_47 h
          rw [e]
          exact Or.inr ur_clean_47
  · have h0 : (ur_B T 0).isSome = false := by
      cases z : (ur_B T 0).isSome
      · rfl
      · rw [if_pos z] at hs; cases hs
    have au : ur_au T = false := by
      cases z : ur_au T
      · rfl
      · rw [if_pos z] at hA; cases hA
    rw [au]
    have np := ur_NP_dec _ _ (Nat.lt_succ_self _) g4 (ur_C4_NP hg h0 au)
    match ur_dec false (ur_C T 4), np with
    | [], np => exact np
    | c :: l, np =>
      by_cases z : c = 47
      · rw [z]
        obtain ⟨r, e⟩ := ur_clean_47 (au := false) (r := l)
        rw [e]; exact Or.inl rfl
      · rw [ur_clean_n47 z]; exact np
  · split at hq
    · cases hq; exact ur_gC_dec _ _ (Nat.lt_succ_self _) g5
    · cases hq
  · split at hq
    · cases hq; exact ur_gC_dec _ _ (Nat.lt_succ_self _) g6
    · cases hq
theorem ur_l5' (h : (ur_B T 5).isSome = true) : (ur_C T 5).length + 1 + ur_q T ≤ ur_f T := by
  have hB := ur_B5 T
  have a := ur_q_hi T
  have b := ur_f_hi T
  by_cases z : ur_q T = ur_f T
  · rw [if_pos z] at hB; rw [hB] at h; cases h
  · rw [if_neg z] at hB; rw [ur_C_s hB, ur_ex_len (by omega)]; omega
theorem ur_l6' (h : (ur_B T 6).isSome = true) : (ur_C T 6).length + 1 + ur_f T ≤ T.length := by
  have hB := ur_B6 T
  have b := ur_f_hi T
  by_cases z : ur_f T = T.length
  · rw [if_pos z] at hB; rw [hB] at h; cases h
  · rw [if_neg z] at hB; rw [ur_C_s hB, ur_ex_len (by omega)]; omega
theorem ur_nm_len (hg : ur_good T) : (ur_nm T).length ≤ T.length := by
  have g4 : ur_gC 2 (ur_C T 4) = true := hg.2.2.2.2.1
  have d0 := ur_dec_len (lo := true) (ur_C T 0)
  have d1 := ur_dec_len (lo := false) (ur_C T 1)
  have d2 := ur_dec_len (lo := true) (ur_C T 2)
  have d4 := ur_dec_len (lo := false) (ur_C T 4)
  have d5 := ur_dec_len (lo := false) (ur_C T 5)
  have d6 := ur_dec_len (lo := false) (ur_C T 6)
  have l4 := ur_l4 T
  have e1 := ur_e_lo T
  have e2 := ur_e_hi T
  have e3 := ur_q_hi T
  have e4 := ur_f_hi T
  have n0 : (ur_n0 T).length ≤ ur_sb T := by
    unfold ur_n0
    cases z : (ur_B T 0).isSome
    · exact Nat.zero_le _
    · have := ur_l0' z
      rw [ur_on_t, List.length_append, List.length_singleton]; omega
  have n6 : (ur_n6 T).length + ur_f T ≤ T.length := by
    unfold ur_n6
    cases z : (ur_B T 6).isSome
    · rw [ur_on_f, List.length_nil]; omega
    · have := ur_l6' z
      rw [ur_on_t, List.length_cons]; omega
  have n5 : (ur_n5 T).length + ur_q T ≤ T.length := by
    unfold ur_n5
    rw [List.length_append]
    cases z : (ur_B T 5).isSome
    · rw [ur_on_f, List.length_nil]; omega
    · have := ur_l5' z
      rw [ur_on_t, List.length_cons]; omega
  have c4 : (ur_clean (ur_au T) (ur_dec false (ur_C T 4))).length ≤ (ur_C T 4).length := by
    cases au : ur_au T
    · have := ur_clean_lf (l := ur_dec false (ur_C T 4)) (fun h => ur_C4_2s au (ur_2s_dec g4 h))
      omega
    · have := ur_clean_lt (ur_dec false (ur_C T 4))
      omega
  have n4 : (ur_n4 T).length + ur_e T ≤ T.length := by
    unfold ur_n4
    rw [List.length_append]; omega
  have n7 : (ur_n7 T).length + ur_sb T ≤ ur_e T := by
    unfold ur_n7
    cases au : ur_au T
    · rw [ur_on_f, List.length_nil]; omega
    · have h7 := congrArg List.length (ur_C7 hg au)
      have hB7 : ur_B T 7 = some (ur_sb T + 2, ur_e T) := by rw [ur_B7, if_neg (by rw [au]; decide)]
      have a1 := ur_e_lo2 au
      rw [ur_C_s hB7, ur_ex_len (ur_e_le T)] at h7
      unfold ur_aut at h7
      rw [List.length_append, List.length_append] at h7
      have m1 : (ur_on (ur_B T 1).isSome (ur_dec false (ur_C T 1) ++ [64])).length ≤ (ur_ob (if (ur_B T 1).isSome = true then some (ur_C T 1) else none) 64).length := by
        cases (ur_B T 1).isSome
        · exact Nat.le_refl _
        · show (ur_dec false (ur_C T 1) ++ [64]).length ≤ (ur_C T 1 ++ [64]).length
          rw [List.length_append, List.length_append]; omega
      have m3 : (ur_n3 T).length ≤ (ur_oa (if (ur_B T 3).isSome = true then some (ur_C T 3) else none) 58).length := by
        unfold ur_n3
        cases z : (ur_C T 3).isEmpty
        · rw [if_pos (ur_3s z)]; exact Nat.le_refl _
        · exact Nat.zero_le _
      rw [ur_on_t]
      unfold ur_n1 ur_n2
      simp only [List.length_cons, List.length_append]
      omega
  unfold ur_nm
  rw [List.length_append, List.length_append]; omega
end
/-! resolving -/
section
variable {B R S O Q path : List Int32}
theorem ur_btx_good (hS : ur_good S) (hO : ur_good O) (hQ : ur_good Q) (hR : ur_good R) (hs : (ur_B S 0).isSome = true) (hp : ur_gC 2 path = true) (h1 : ur_au O = true → path = [] ∨ ∃ r, path = 47 :: r) (h2 : ur_au O = false → ¬ ur_2s path) : ur_good (ur_btx S O Q R path) := by
  have e : ur_btx S O Q R path = ur_cmp (some (ur_C S 0)) (if ur_au O = true then 47 :: 47 :: ur_C O 7 else []) path (if (ur_B Q 5).isSome = true then some (ur_C Q 5) else none) (if (ur_B R 6).isSome = true then some (ur_C R 6) else none) := by
    unfold ur_btx ur_cmp
    rw [hs]
    have a5 : ur_on (ur_B Q 5).isSome (63 :: ur_C Q 5) = ur_oa (if (ur_B Q 5).isSome = true then some (ur_C Q 5) else none) 63 := by
      cases (ur_B Q 5).isSome <;> rfl
    have a6 : ur_on (ur_B R 6).isSome (35 :: ur_C R 6) = ur_oa (if (ur_B R 6).isSome = true then some (ur_C R 6) else none) 35 := by
      cases (ur_B R 6).isSome <;> rfl
    rw [a5, a6]
    cases ur_au O <;> rfl
  rw [e]
  refine ur_cmp_good (uo := if (ur_B O 1).isSome = true then some (ur_C O 1) else none) (H := ur_C O 2) (po := if (ur_B O 3).isSome = true then some (ur_C O 3) else none) (fun s h => ?_) ?_ (fun h => by cases h) hp (fun q hq => ?_) (fun q hq => ?_)
  · cases h; exact ur_C0_g hS hs
  · cases au : ur_au O
    · exact Or.inl ⟨if_neg (by decide), h2 au⟩
    · refine Or.inr ⟨by rw [if_pos rfl, ur_C7 hO au], ⟨fun u hu => ?_, ur_C2_g hO au, fun p hp => ?_⟩, h1 au⟩
      · split at hu
        · cases hu; exact hO.2.1
        · cases hu
      · split at hp
        · rename_i z
          cases hp
          have g3 := hO.2.2.2.1
          unfold ur_g3 at g3
          rw [z] at g3; exact g3
        · cases hp
  · split at hq
    · cases hq; exact hQ.2.2.2.2.2.1
    · cases hq
  · split at hq
    · cases hq; exact hR.2.2.2.2.2.2
    · cases hq
theorem ur_ls_at : ∀ (l : List Int32) (acc i : Nat), ur_ls acc i l = acc ∨ (i < ur_ls acc i l ∧ ur_ls acc i l ≤ i + l.length ∧ ur_at l (ur_ls acc i l - 1 - i) = 47)
  | [], acc, i => Or.inl rfl
  | c :: l, acc, i => by
    rw [ur_ls]
    by_cases z : c = 47
    · rw [if_pos z]
      rcases ur_ls_at l (i + 1) (i + 1) with h | ⟨h1, h2, h3⟩
      · rw [h]
        refine Or.inr ⟨by omega, by simp, ?_⟩
        rw [show i + 1 - 1 - i = 0 by omega]; exact z
      · refine Or.inr ⟨by omega, by rw [List.length_cons]; omega, ?_⟩
        rw [show ur_ls (i + 1) (i + 1) l - 1 - i = (ur_ls (i + 1) (i + 1) l - 1 - (i + 1)) + 1 by omega]
        exact h3
    · rw [if_neg z]
      rcases ur_ls_at l acc (i + 1) with h | ⟨h1, h2, h3⟩
      · exact Or.inl h
      · refine Or.inr ⟨by omega, by rw [List.length_cons]; omega, ?_⟩
        rw [show ur_ls acc (i + 1) l - 1 - i = (ur_ls acc (i + 1) l - 1 - (i + 1)) + 1 by omega]
        exact h3
theorem ur_ls_ge : ∀ (l : List Int32) (acc i : Nat), acc ≤ i → acc ≤ ur_ls acc i l
  | [], acc, i, _ => Nat.le_refl _
  | c :: l, acc, i, h => by
    rw [ur_ls]
    split
    · have := ur_ls_ge l (i + 1) (i + 1) (Nat.le_refl _); omega
    · exact ur_ls_ge l acc (i + 1) (by omega)
theorem ur_fo_g {l : List Int32} (h : ur_gC 2 l = true) : ur_gC 2 (ur_fo l) = true := by
  unfold ur_fo
  split
  · rfl
  · rcases ur_ls_at l 0 0 with e | ⟨h1, h2, h3⟩
    · rw [e]; rfl
    · generalize ur_ls 0 0 l = n at *
      have e : l = l.take (n - 1) ++ 47 :: l.drop n := by
        apply ur_ext
        · simp only [List.length_append, List.length_cons, List.length_take, List.length_drop]; omega
        · intro i hi
          by_cases a : i < n - 1
          · rw [ur_at_l _ _ _ (by rw [List.length_take]; omega), ur_at_take _ _ _ a]
          · rw [ur_at_r' (by rw [List.length_take]; omega), List.length_take, Nat.min_eq_left (by omega)]
            by_cases b : i = n - 1
            · subst b
              rw [Nat.sub_self]; exact h3
            · obtain ⟨j, hj⟩ : ∃ j, i - (n - 1) = j + 1 := ⟨i - n, by omega⟩
              rw [hj]
              show _ = ur_at (l.drop n) j
              rw [ur_at_drop]; exact congrArg _ (by omega)
      have e2 : l.take n = l.take (n - 1) ++ [47] := by
        apply ur_ext
        · simp only [List.length_append, List.length_take, List.length_singleton]; omega
        · intro i hi
          rw [List.length_take] at hi
          rw [ur_at_take _ _ _ (by omega)]
          by_cases a : i < n - 1
          · rw [ur_at_l _ _ _ (by rw [List.length_take]; omega), ur_at_take _ _ _ a]
          · have : i = n - 1 := by omega
            subst this
            rw [ur_at_r' (by rw [List.length_take]; omega), List.length_take, Nat.min_eq_left (by omega), Nat.sub_self]; exact h3
      rw [e] at h
      rw [e2]
      exact ur_gC_app (ur_gC_47 h).1 (ur_gC_s rfl (by decide))
theorem ur_fo_47 {l : List Int32} (h : l = [] ∨ ∃ r, l = 47 :: r) : ∃ r, ur_fo l = 47 :: r := by
  rcases h with rfl | ⟨r, rfl⟩
  · exact ⟨[], rfl⟩
  · unfold ur_fo
    rw [if_neg (by simp)]
    have e : ur_ls 0 0 (47 :: r) = ur_ls 1 1 r := by rw [ur_ls, if_pos rfl]
    have q := ur_ls_ge r 1 1 (Nat.le_refl _)
    rw [e]
    obtain ⟨j, hj⟩ : ∃ j, ur_ls 1 1 r = j + 1 := ⟨ur_ls 1 1 r - 1, by omega⟩
    rw [hj]
    exact ⟨r.take j, rfl⟩
theorem ur_bd_good (hB : ur_good B) (hR : ur_good R) (hb : ur_ib B = true) : ur_good (ur_bd B R) := by
  unfold ur_ib at hb
  rw [Bool.and_eq_true] at hb
  have gB4 : ur_gC 2 (ur_C B 4) = true := hB.2.2.2.2.1
  have gR4 : ur_gC 2 (ur_C R 4) = true := hR.2.2.2.2.1
  -- a cleaned path that begins with a slash fits every authority
  have cl : ∀ (au : Bool) (l : List Int32), (au = true → l = [] ∨ ∃ r, l = 47 :: r) → au = true → ur_clean au l = [] ∨ ∃ r, ur_clean au l = 47 :: r := by
    intro au l h e
    rcases h e with rfl | ⟨r, rfl⟩
    · exact Or.inl rfl
    · exact Or.inr ur_clean_47
  unfold ur_bd
  split
  · rename_i h0
    exact ur_btx_good hR hR hR hR h0 (ur_gC_clean rfl rfl _ gR4) (fun au => cl _ _ (fun _ => ur_C4_au au) au) (fun au => by rw [au]; exact fun h => ur_clean_2s h)
  · split
    · rename_i au
      exact ur_btx_good hB hR hR hR hb.1 (ur_gC_clean rfl rfl _ gR4) (fun au => cl _ _ (fun _ => ur_C4_au au) au) (fun au => by rw [au]; exact fun h => ur_clean_2s h)
    · split
      · have hQ : ur_good (if (ur_B R 5).isSome = true then R else B) := by split <;> assumption
        exact ur_btx_good hB hB hQ hR hb.1 gB4 (fun au => ur_C4_au au) (fun au => ur_C4_2s au)
      · rename_i hne
        split
        · rename_i h47
          refine ur_btx_good hB hB hR hR hb.1 (ur_gC_clean rfl rfl _ gR4) (fun au => cl _ _ (fun _ => ?_) au) (fun au => by rw [au]; exact fun h => ur_clean_2s h)
          match ur_C R 4, hne, h47 with
          | [], hne, _ => exact absurd rfl hne
          | c :: l, _, h47 => exact Or.inr ⟨l, by rw [show c = 47 from h47]⟩
        · refine ur_btx_good hB hB hR hR hb.1 (ur_gC_clean rfl rfl _ (ur_gC_app (ur_fo_g gB4) gR4)) (fun au => cl _ _ (fun _ => ?_) au) (fun au => by rw [au]; exact fun h => ur_clean_2s h)
          have f47 : ∃ r, ur_fo (ur_C B 4) = 47 :: r := ur_fo_47 (ur_C4_au au)
          obtain ⟨r, e⟩ := f47
          rw [e]
          exact Or.inr ⟨_, rfl⟩
end
end
section
/-! the relation -/
/-- slots hold good texts within the limit, the input a text within the limit -/
def ur_Iv (L : Nat → Option (List Int32)) (li : Nat) : Prop := (∀ r, r < 6 → ∀ t, L r = some t → t.length ≤ li ∧ ur_good t) ∧ ∃ t, L 6 = some t ∧ t.length ≤ li
/-- both objects hold the same slots and the same input; what they work with beside differs -/
def i_Rel (k : Nat) (u : SX) (v : SY) : Prop := ∃ (li cn : Nat) (L : Nat → Option (List Int32)) (bh : Int32) (m l fa ta wa c n s e : Nat → Int32), (0 ≤ k ∧ 16 ≤ li ∧ li ≤ 40 ∧ 3 ≤ cn ∧ cn ≤ 6) ∧ ur_St 128 L m l ∧ ur_St 256 L c n ∧ ur_Iv L li ∧ u = ur_x bh (nI li) (nI cn) m l fa ta wa ∧ v = ur_y (nI li) (nI cn) c n s e
theorem ur_rel {k li cn : Nat} {L : Nat → Option (List Int32)} {bh : Int32} {m l fa ta wa c n s e : Nat → Int32} (hl : 16 ≤ li ∧ li ≤ 40 ∧ 3 ≤ cn ∧ cn ≤ 6) (h1 : ur_St 128 L m l) (h2 : ur_St 256 L c n) (h3 : ur_Iv L li) : i_Rel k (ur_x bh (nI li) (nI cn) m l fa ta wa) (ur_y (nI li) (nI cn) c n s e) :=
  ⟨li, cn, L, bh, m, l, fa, ta, wa, c, n, s, e, ⟨Nat.zero_le _, hl⟩, h1, h2, h3, rfl, rfl⟩
theorem ur_el {P : SX → SY → Prop} {k : Nat} {u : SX} {v : SY} (I : i_Rel k u v)
    (h : ∀ (li cn : Nat) (L : Nat → Option (List Int32)) (bh : Int32) (m l fa ta wa c n s e : Nat → Int32), (16 ≤ li ∧ li ≤ 40 ∧ 3 ≤ cn ∧ cn ≤ 6) → ur_St 128 L m l → ur_St 256 L c n → ur_Iv L li → P (ur_x bh (nI li) (nI cn) m l fa ta wa) (ur_y (nI li) (nI cn) c n s e)) : P u v := by
  obtain ⟨li, cn, L, bh, m, l, fa, ta, wa, c, n, s, e, hl, h1, h2, h3, hu, hv⟩ := I
  rw [hu, hv]
  exact h li cn L bh m l fa ta wa c n s e hl.2 h1 h2 h3
theorem i_up {k : Nat} {u : SX} {v : SY} (h : i_Rel k u v) : i_Rel (k + 4) u v := by
  refine ur_el (P := fun u v => i_Rel (k + 4) u v) h (fun li cn L bh m l fa ta wa c n s e hl h1 h2 h3 => ur_rel hl h1 h2 h3)
theorem ur_Iv_put {L : Nat → Option (List Int32)} {li s : Nat} {t : List Int32} (h : ur_Iv L li) (hs : s < 6) (ht : t.length ≤ li) (hg : ur_good t) : ur_Iv (ur_s L s (some t)) li := by
  refine ⟨fun r hr x hx => ?_, ?_⟩
  · by_cases e : r = s
    · subst e; rw [ur_s_e] at hx; cases hx; exact ⟨ht, hg⟩
    · rw [ur_s_n e] at hx; exact h.1 r hr x hx
  · rw [ur_s_n (by omega)]; exact h.2
theorem ur_Iv_none {L : Nat → Option (List Int32)} {li s : Nat} (h : ur_Iv L li) (hs : s < 6) : ur_Iv (ur_s L s none) li := by
  refine ⟨fun r hr x hx => ?_, ?_⟩
  · by_cases e : r = s
    · subst e; rw [ur_s_e] at hx; cases hx
    · rw [ur_s_n e] at hx; exact h.1 r hr x hx
  · rw [ur_s_n (by omega)]; exact h.2
theorem ur_Iv_in {L : Nat → Option (List Int32)} {li : Nat} {t : List Int32} (h : ur_Iv L li) (ht : t.length ≤ li) : ur_Iv (ur_s L 6 (some t)) li := by
  refine ⟨fun r hr x hx => ?_, ⟨t, ur_s_e, ht⟩⟩
  rw [ur_s_n (by omega)] at hx; exact h.1 r hr x hx
theorem ur_W_St {W : Nat} {L0 L : Nat → Option (List Int32)} {m l : Nat → Int32} {t7 t8 : List Int32} (h : ur_W W L m l t7 t8) (hk : ∀ j, j < 7 → L j = L0 j) (hs : ∀ j, 7 ≤ j → j < 11 → ∃ t, L j = some t) : ur_St W L0 m l := by
  obtain ⟨L2, hM, h7, h8, hk2⟩ := h
  refine ⟨L2, hM, fun j hj => (hk2 j (by omega) (by omega)).trans (hk j hj), fun j a b => ?_⟩
  by_cases e7 : j = 7
  · subst e7; exact ⟨_, h7⟩
  by_cases e8 : j = 8
  · subst e8; exact ⟨_, h8⟩
  rw [hk2 j e7 e8]; exact hs j a b
/-! the constructors -/
theorem xl_init {post : SX → Prop} {lim cnt : Int32} : ∀ (d i : Nat) (l : Nat → Int32), i + d = 6 → (∀ j, j < i → l j = -1) → (∀ j, i ≤ j → l j = 0) →
    (∀ l', (∀ j, j < 6 → l' j = -1) → (∀ j, 6 ≤ j → l' j = 0) → post (ur_x 0 lim cnt (fun _ => 0) l' (fun _ => 0) (fun _ => 0) (fun _ => 0))) →
    wX_init_152 post 128 6 7 8 9 10 0 lim cnt (d + 1) (nI i) (fun _ => 0) l (fun _ => 0) (fun _ => 0) (fun _ => 0) := by
  intro d
  induction d with
  | zero =>
    intro i l hi h1 h2 k
    have e : i = 6 := by omega
    subst e
    exact br_t (by decide) (k l h1 h2)
  | succ d ih =>
    intro i l hi h1 h2 k
    refine br_f (nI_ge (b := 6) (by omega) (by decide)) ⟨vp_in_nI (by omega) (by decide), ?_⟩
    rw [nI_clamp (show i < 2 ^ 31 by omega)]
    refine nm_e (nm_r (nI_1 _) (ih (i + 1) _ (by omega) (fun j hj => ?_) (fun j hj => ?_) k))
    · by_cases e : j = i
      · subst e; exact pk_us
      · rw [pk_un e]; exact h1 j (by omega)
    · rw [pk_un (by omega)]; exact h2 j (by omega)
theorem yl_init {post : SY → Prop} {lim cnt : Int32} : ∀ (d i : Nat) (n : Nat → Int32), i + d = 6 → (∀ j, j < i → n j = -1) → (∀ j, i ≤ j → n j = 0) →
    (∀ n', (∀ j, j < 6 → n' j = -1) → (∀ j, 6 ≤ j → n' j = 0) → post (ur_y lim cnt (fun _ => 0) n' (fun _ => 0) (fun _ => 0))) →
    wY_init_93 post lim cnt (d + 1) (nI i) (fun _ => 0) n (fun _ => 0) (fun _ => 0) := by
  intro d
  induction d with
  | zero =>
    intro i l hi h1 h2 k
    have e : i = 6 := by omega
    subst e
    exact br_t (by decide) (k l h1 h2)
  | succ d ih =>
    intro i l hi h1 h2 k
    refine br_f (nI_ge (b := 6) (by omega) (by decide)) ⟨vp_in_nI (by omega) (by decide), ?_⟩
    rw [nI_clamp (show i < 2 ^ 31 by omega)]
    refine nm_e (nm_r (nI_1 _) (ih (i + 1) _ (by omega) (fun j hj => ?_) (fun j hj => ?_) k))
    · by_cases e : j = i
      · subst e; exact pk_us
      · rw [pk_un e]; exact h1 j (by omega)
    · rw [pk_un (by omega)]; exact h2 j (by omega)
/-- a constructor argument held between two bounds -/
theorem ur_cl3 (x : Int32) (a b : Nat) (hab : a ≤ b) (hb : b < 2 ^ 31) : (¬ nI a ≤ x) ∨ (nI a ≤ x ∧ ¬ x ≤ nI b) ∨ (nI a ≤ x ∧ x ≤ nI b ∧ ∃ v, a ≤ v ∧ v ≤ b ∧ x = nI v) := by
  by_cases h1 : nI a ≤ x
  · by_cases h2 : x ≤ nI b
    · refine Or.inr (Or.inr ⟨h1, h2, ?_⟩)
      obtain ⟨v, hv, rfl⟩ := nI_of (x := x) (fun z => Int32.lt_irrefl (Int32.lt_of_le_of_lt (Int32.le_trans (nI_pos' (show a < 2 ^ 31 by omega)) h1) z))
      rw [nI_leI (by omega) hv] at h1
      rw [nI_leI hv hb] at h2
      exact ⟨v, h1, h2, rfl⟩
    · exact Or.inr (Or.inl ⟨h1, h2⟩)
  · exact Or.inl h1
def ur_L0 : Nat → Option (List Int32) := fun j => if j < 6 then none else some []
theorem ur_L0_M (W : Nat) {l : Nat → Int32} (h1 : ∀ j, j < 6 → l j = -1) (h2 : ∀ j, 6 ≤ j → l j = 0) : ur_M W ur_L0 (fun _ => 0) l := by
  intro r hr
  unfold ur_L0
  by_cases e : r < 6
  · rw [if_pos e]
    exact ⟨fun _ => h1 r e, fun t ht => by cases ht⟩
  · rw [if_neg e]
    refine ⟨fun z => (by cases z), fun t ht => ?_⟩
    cases ht
    exact ⟨h2 r (by omega), Nat.zero_le _, fun i hi => absurd hi (Nat.not_lt_zero _)⟩
theorem ur_L0_St (W : Nat) {l : Nat → Int32} (h1 : ∀ j, j < 6 → l j = -1) (h2 : ∀ j, 6 ≤ j → l j = 0) : ur_St W ur_L0 (fun _ => 0) l :=
  ⟨ur_L0, ur_L0_M W h1 h2, fun _ _ => rfl, fun j a _ => ⟨[], by unfold ur_L0; rw [if_neg (by omega)]⟩⟩
theorem ur_L0_Iv (li : Nat) : ur_Iv ur_L0 li := by
  refine ⟨fun r hr t ht => ?_, ⟨[], rfl, Nat.zero_le _⟩⟩
  unfold ur_L0 at ht
  rw [if_pos hr] at ht; cases ht
theorem xa_init {post : SX → Prop} {k0 k1 : Int32} {li cn : Nat} (hl : 16 ≤ li ∧ li ≤ 40 ∧ 3 ≤ cn ∧ cn ≤ 6)
    (hli : (¬ nI 16 ≤ k0 ∧ li = 16) ∨ (nI 16 ≤ k0 ∧ ¬ k0 ≤ nI 40 ∧ li = 40) ∨ (nI 16 ≤ k0 ∧ k0 ≤ nI 40 ∧ k0 = nI li))
    (hcn : (¬ nI 3 ≤ k1 ∧ cn = 3) ∨ (nI 3 ≤ k1 ∧ ¬ k1 ≤ nI 6 ∧ cn = 6) ∨ (nI 3 ≤ k1 ∧ k1 ≤ nI 6 ∧ k1 = nI cn))
    (k : ∀ l', (∀ j, j < 6 → l' j = -1) → (∀ j, 6 ≤ j → l' j = 0) → post (ur_x 0 (nI li) (nI cn) (fun _ => 0) l' (fun _ => 0) (fun _ => 0) (fun _ => 0))) : wpX_init post k0 k1 := by
  have fin : ∃ n, wX_init_152 post 128 6 7 8 9 10 0 (nI li) (nI cn) n 0 (fun _ => 0) (fun _ => 0) (fun _ => 0) (fun _ => 0) (fun _ => 0) :=
    ⟨7, xl_init 6 0 _ rfl (fun j hj => absurd hj (Nat.not_lt_zero _)) (fun _ _ => rfl) k⟩
  have h135 : wX_init_117 post k1 128 6 7 8 9 10 0 (nI li) 0 (fun _ => 0) (fun _ => 0) (fun _ => 0) (fun _ => 0) (fun _ => 0) := by
    unfold wX_init_117 wX_init_135
    rcases hcn with ⟨h1, rfl⟩ | ⟨h1, h2, rfl⟩ | ⟨h1, h2, rfl⟩
    · exact br_f h1 (br_t (by decide) fin)
    · exact br_t h1 (br_f h2 fin)
    · exact br_t h1 (br_t h2 fin)
  unfold wpX_init wX_init_102
  rcases hli with ⟨h1, rfl⟩ | ⟨h1, h2, rfl⟩ | ⟨h1, h2, rfl⟩
  · exact br_f h1 (br_t (by decide) h135)
  · exact br_t h1 (br_f h2 h135)
  · exact br_t h1 (br_t h2 h135)
theorem ya_init {post : SY → Prop} {k0 k1 : Int32} {li cn : Nat} (hl : 16 ≤ li ∧ li ≤ 40 ∧ 3 ≤ cn ∧ cn ≤ 6)
    (hli : (¬ nI 16 ≤ k0 ∧ li = 16) ∨ (nI 16 ≤ k0 ∧ ¬ k0 ≤ nI 40 ∧ li = 40) ∨ (nI 16 ≤ k0 ∧ k0 ≤ nI 40 ∧ k0 = nI li))
    (hcn : (¬ nI 3 ≤ k1 ∧ cn = 3) ∨ (nI 3 ≤ k1 ∧ ¬ k1 ≤ nI 6 ∧ cn = 6) ∨ (nI 3 ≤ k1 ∧ k1 ≤ nI 6 ∧ k1 = nI cn))
    (k : ∀ n', (∀ j, j < 6 → n' j = -1) → (∀ j, 6 ≤ j → n' j = 0) → post (ur_y (nI li) (nI cn) (fun _ => 0) n' (fun _ => 0) (fun _ => 0))) : wpY_init post k0 k1 := by
  have fin : ∃ n, wY_init_93 post (nI li) (nI cn) n 0 (fun _ => 0) (fun _ => 0) (fun _ => 0) (fun _ => 0) :=
    ⟨7, yl_init 6 0 _ rfl (fun j hj => absurd hj (Nat.not_lt_zero _)) (fun _ _ => rfl) k⟩
  have h63 : wY_init_63 post k1 (nI li) 0 0 (fun _ => 0) (fun _ => 0) (fun _ => 0) (fun _ => 0) := by
    unfold wY_init_63
    rcases hcn with ⟨h1, rfl⟩ | ⟨h1, h2, rfl⟩ | ⟨h1, h2, rfl⟩
    · exact br_f h1 fin
    · exact br_t h1 (br_f h2 fin)
    · exact br_t h1 (br_t h2 fin)
  unfold wpY_init
  rcases hli with ⟨h1, rfl⟩ | ⟨h1, h2, rfl⟩ | ⟨h1, h2, rfl⟩
  · exact br_f h1 h63
  · exact br_t h1 (br_f h2 h63)
  · exact br_t h1 (br_t h2 h63)
theorem i_vc0 (k0 : Int32) (k1 : Int32) : wpX_init (fun u => wpY_init (fun v => i_Rel 2 u v) k0 k1) k0 k1 := by
  have hl : ∃ li, 16 ≤ li ∧ li ≤ 40 ∧ ((¬ nI 16 ≤ k0 ∧ li = 16) ∨ (nI 16 ≤ k0 ∧ ¬ k0 ≤ nI 40 ∧ li = 40) ∨ (nI 16 ≤ k0 ∧ k0 ≤ nI 40 ∧ k0 = nI li)) := by
    rcases ur_cl3 k0 16 40 (by decide) (by decide) with h | h | ⟨h1, h2, v, a, b, e⟩
    · exact ⟨16, by decide, by decide, Or.inl ⟨h, rfl⟩⟩
    · exact ⟨40, by decide, by decide, Or.inr (Or.inl ⟨h.1, h.2, rfl⟩)⟩
    · exact ⟨v, a, b, Or.inr (Or.inr ⟨h1, h2, e⟩)⟩
  have hc : ∃ cn, 3 ≤ cn ∧ cn ≤ 6 ∧ ((¬ nI 3 ≤ k1 ∧ cn = 3) ∨ (nI 3 ≤ k1 ∧ ¬ k1 ≤ nI 6 ∧ cn = 6) ∨ (nI 3 ≤ k1 ∧ k1 ≤ nI 6 ∧ k1 = nI cn)) := by
    rcases ur_cl3 k1 3 6 (by decide) (by decide) with h | h | ⟨h1, h2, v, a, b, e⟩
    · exact ⟨3, by decide, by decide, Or.inl ⟨h, rfl⟩⟩
    · exact ⟨6, by decide, by decide, Or.inr (Or.inl ⟨h.1, h.2, rfl⟩)⟩
    · exact ⟨v, a, b, Or.inr (Or.inr ⟨h1, h2, e⟩)⟩
  obtain ⟨li, a1, a2, a3⟩ := hl
  obtain ⟨cn, b1, b2, b3⟩ := hc
  refine xa_init ⟨a1, a2, b1, b2⟩ a3 b3 (fun l' p1 p2 => ?_)
  refine ya_init ⟨a1, a2, b1, b2⟩ a3 b3 (fun n' q1 q2 => ?_)
  exact ur_rel ⟨a1, a2, b1, b2⟩ (ur_L0_St 128 p1 p2) (ur_L0_St 256 q1 q2) (ur_L0_Iv li)
end
section
/-! the input's methods -/
def ur_by (w : Int64) (j : Nat) : Int64 := (w.toUInt64 >>> ((nI (8 * j)).toInt64.toUInt64 &&& Int64.toUInt64 63)).toInt64 &&& 255
theorem ur_by_v (w : Int64) (j : Nat) : ∃ v, v < 256 ∧ ur_by w j = lN v := by
  obtain ⟨n, hn, e⟩ := wb_of (w.toUInt64 >>> ((nI (8 * j)).toInt64.toUInt64 &&& Int64.toUInt64 63)).toInt64
  refine ⟨n % 2 ^ 8, Nat.mod_lt _ (by decide), ?_⟩
  unfold ur_by
  rw [e]
  exact wb_mask (k := 8) hn (by decide)
theorem ur_by_0 (w : Int64) (j : Nat) : ur_by w j = 0 ↔ (ur_by w j).toInt32 = 0 := by
  obtain ⟨v, hv, e⟩ := ur_by_v w j
  rw [e, lN_i]
  constructor
  · intro z
    have : v = 0 := (lN_eq (by omega) (by decide)).mp (z.trans (show (0 : Int64) = lN 0 from rfl))
    rw [this]; rfl
  · intro z
    have : v = 0 := (nI_eq (by omega) (by decide)).mp (z.trans (show (0 : Int32) = nI 0 from rfl))
    rw [this]; rfl
def ur_nz (w : Int64) (j : Nat) : Nat := if ur_by w j = 0 then 0 else 1
def ur_sm (w : Int64) : Nat → Nat
  | 0 => 0
  | j + 1 => ur_sm w j + ur_nz w j
def ur_bl (w : Int64) : Nat → List Int32
  | 0 => []
  | j + 1 => (if ur_by w j = 0 then [] else [(ur_by w j).toInt32]) ++ ur_bl w j
theorem ur_bl_len (w : Int64) : ∀ j, (ur_bl w j).length = ur_sm w j
  | 0 => rfl
  | j + 1 => by
    rw [ur_bl, ur_sm, List.length_append, ur_bl_len w j]
    unfold ur_nz
    split <;> simp only [List.length_nil, List.length_cons] <;> omega
theorem ur_sm_le (w : Int64) : ∀ j, ur_sm w j ≤ j
  | 0 => Nat.le_refl _
  | j + 1 => by
    have := ur_sm_le w j
    rw [ur_sm]; unfold ur_nz; split <;> omega
theorem ur_8 (j : Nat) : nI (8 * (j + 1)) + (-8) = nI (8 * j) := by
  have e : nI (8 * (j + 1)) = nI (8 * j) + 8 := (nI_add (8 * j) 8).symm
  rw [e, Int32.add_assoc, show (8 : Int32) + (-8) = 0 from rfl, Int32.add_zero]
section
variable {bh lim cnt : Int32} {m l fa ta wa : Nat → Int32} {L : Nat → Option (List Int32)} {T : List Int32} {w : Int64}
theorem xl_put55 {post : Int32 → SX → Prop} : ∀ (j : Nat) (T : List Int32) (m l : Nat → Int32) (L : Nat → Option (List Int32)), j ≤ 8 → ur_M 128 L m l → L 6 = some T → T.length + ur_sm w j ≤ 100 →
    (∀ m' l', ur_M 128 (ur_s L 6 (some (T ++ ur_bl w j))) m' l' → post 0 (ur_x bh lim cnt m' l' fa ta wa)) →
    wX_put_55 post w (j + 1) (nI (8 * j) + (-8)) 128 6 7 8 9 10 bh lim cnt m l fa ta wa := by
  intro j
  induction j with
  | zero =>
    intro T m l L _ h hL hT k
    refine br_t (by decide) (k m l ?_)
    rw [ur_bl, List.append_nil, ur_s_id hL]; exact h
  | succ j ih =>
    intro T m l L hj h hL hT k
    rw [ur_sm] at hT
    rw [ur_bl] at k
    unfold ur_nz at hT
    rw [ur_8]
    refine br_f (nI_pos (by omega)) (nm_e (br_c (fun z => nm_e ?_) (fun z => ?_)))
    · have z' : ur_by w j = 0 := (ur_by_0 w j).mpr z
      rw [if_pos z'] at hT k
      rw [List.nil_append] at k
      exact ih T m l L (by omega) h hL (by omega) k
    · have z' : ¬ ur_by w j = 0 := fun q => z ((ur_by_0 w j).mp q)
      rw [if_neg z'] at hT k
      refine xa_add 6 h (by decide) hL (by omega) (fun m1 l1 h1 => nm_e ?_)
      refine ih _ m1 l1 _ (by omega) h1 ur_s_e (by rw [List.length_append, List.length_singleton]; omega) ?_
      rw [ur_s_s, List.append_assoc]
      exact k
theorem xl_put6 {post : Int32 → SX → Prop} (li : Nat) (hli : li ≤ 40) (h : ur_M 128 L m l) (hL : L 6 = some T) (hT : T.length ≤ li)
    (k1 : li < T.length + ur_sm w 8 → post 1 (ur_x bh (nI li) cnt m l fa ta wa))
    (k0 : T.length + ur_sm w 8 ≤ li → ∀ m' l', ur_M 128 (ur_s L 6 (some (T ++ ur_bl w 8))) m' l' → post 0 (ur_x bh (nI li) cnt m' l' fa ta wa)) :
    ∀ (j a : Nat), j ≤ 8 → a + ur_sm w j = ur_sm w 8 → wX_put_6 post w 128 6 7 8 9 10 bh (nI li) cnt m l fa ta wa (j + 1) (nI a) (nI (8 * j) + (-8)) := by
  have s8 := ur_sm_le w 8
  intro j
  induction j with
  | zero =>
    intro a _ ha
    rw [ur_sm, Nat.add_zero] at ha
    subst ha
    refine br_t (by decide) ?_
    rw [ur_M_len h (r := 6) (by decide) hL, nI_add]
    refine pk_le (T.length + ur_sm w 8) li (fun z => ⟨9, ?_⟩) k1
    exact xl_put55 8 T m l L (Nat.le_refl _) h hL (by omega) (k0 z)
  | succ j ih =>
    intro a hj ha
    rw [ur_sm] at ha
    unfold ur_nz at ha
    rw [ur_8]
    refine br_f (nI_pos (by omega)) (br_c (fun z => nm_e ?_) (fun z => nm_r (nI_1 _) (nm_e ?_)))
    · rw [if_pos (show ur_by w j = 0 from z)] at ha
      exact ih a (by omega) (by omega)
    · rw [if_neg (show ¬ ur_by w j = 0 from z)] at ha
      exact ih (a + 1) (by omega) (by omega)
theorem xa_put {post : Int32 → SX → Prop} (li : Nat) (hli : li ≤ 40) (h : ur_M 128 L m l) (hL : L 6 = some T) (hT : T.length ≤ li)
    (k1 : li < T.length + ur_sm w 8 → post 1 (ur_x bh (nI li) cnt m l fa ta wa))
    (k0 : T.length + ur_sm w 8 ≤ li → ∀ m' l', ur_M 128 (ur_s L 6 (some (T ++ ur_bl w 8))) m' l' → post 0 (ur_x bh (nI li) cnt m' l' fa ta wa)) :
    wpX_put post (ur_x bh (nI li) cnt m l fa ta wa) w := ⟨9, xl_put6 li hli h hL hT k1 k0 8 0 (Nat.le_refl _) (Nat.zero_add _)⟩
end
section
variable {lim cnt : Int32} {yc yn ys ye : Nat → Int32} {L : Nat → Option (List Int32)} {T : List Int32} {w : Int64}
theorem ur_8m (j : Nat) : (8 : Int32) * nI j = nI (8 * j) := pk_mul 8 j
theorem yl_put59 {post : Int32 → SY → Prop} : ∀ (j : Nat) (T : List Int32) (yc yn : Nat → Int32) (L : Nat → Option (List Int32)), j ≤ 8 → ur_M 256 L yc yn → L 6 = some T → T.length + ur_sm w j ≤ 100 →
    (∀ c' n', ur_M 256 (ur_s L 6 (some (T ++ ur_bl w j))) c' n' → post 0 (ur_y lim cnt c' n' ys ye)) →
    wY_put_59 post w (j + 1) (nI j + (-1)) lim cnt yc yn ys ye := by
  intro j
  induction j with
  | zero =>
    intro T m l L _ h hL hT k
    refine br_t (by decide) (k m l ?_)
    rw [ur_bl, List.append_nil, ur_s_id hL]; exact h
  | succ j ih =>
    intro T m l L hj h hL hT k
    rw [ur_sm] at hT
    rw [ur_bl] at k
    unfold ur_nz at hT
    rw [pk_m1, wY_put_59]
    dsimp only
    rw [ur_8m]
    refine br_f (nI_pos (by omega)) (nm_e (br_c (fun z => nm_e ?_) (fun z => ?_)))
    · have z' : ur_by w j = 0 := (ur_by_0 w j).mpr z
      rw [if_pos z'] at hT k
      rw [List.nil_append] at k
      exact ih T m l L (by omega) h hL (by omega) k
    · have z' : ¬ ur_by w j = 0 := fun q => z ((ur_by_0 w j).mp q)
      rw [if_neg z'] at hT k
      refine ya_add 6 h (by decide) hL (by omega) (fun m1 l1 h1 => nm_e ?_)
      refine ih _ m1 l1 _ (by omega) h1 ur_s_e (by rw [List.length_append, List.length_singleton]; omega) ?_
      rw [ur_s_s, List.append_assoc]
      exact k
theorem yl_put5 {post : Int32 → SY → Prop} (li : Nat) (hli : li ≤ 40) (h : ur_M 256 L yc yn) (hL : L 6 = some T) (hT : T.length ≤ li)
    (k1 : li < T.length + ur_sm w 8 → post 1 (ur_y (nI li) cnt yc yn ys ye))
    (k0 : T.length + ur_sm w 8 ≤ li → ∀ c' n', ur_M 256 (ur_s L 6 (some (T ++ ur_bl w 8))) c' n' → post 0 (ur_y (nI li) cnt c' n' ys ye)) :
    ∀ (d j : Nat), j + d = 8 → wY_put_5 post w (nI li) cnt yc yn ys ye (d + 1) (nI (ur_sm w j)) (nI j) := by
  have s8 := ur_sm_le w 8
  intro d
  induction d with
  | zero =>
    intro j hj
    have e : j = 8 := by omega
    subst e
    refine br_t (by decide) ?_
    rw [ur_M_len h (r := 6) (by decide) hL, nI_add]
    refine pk_le (T.length + ur_sm w 8) li (fun z => ⟨9, ?_⟩) k1
    exact yl_put59 8 T yc yn L (Nat.le_refl _) h hL (by omega) (k0 z)
  | succ d ih =>
    intro j hj
    have ih := ih (j + 1) (by omega)
    rw [ur_sm] at ih
    unfold ur_nz at ih
    rw [wY_put_5]
    dsimp only
    rw [ur_8m]
    refine br_f (nI_ge (b := 8) (by omega) (by decide)) (br_c (fun z => nm_r (nI_1 _) ?_) (fun z => nm_r (nI_1 _) (nm_r (nI_1 _) ?_)))
    · rw [if_pos (show ur_by w j = 0 from z)] at ih
      exact ih
    · rw [if_neg (show ¬ ur_by w j = 0 from z)] at ih
      exact ih
theorem ya_put {post : Int32 → SY → Prop} (li : Nat) (hli : li ≤ 40) (h : ur_M 256 L yc yn) (hL : L 6 = some T) (hT : T.length ≤ li)
    (k1 : li < T.length + ur_sm w 8 → post 1 (ur_y (nI li) cnt yc yn ys ye))
    (k0 : T.length + ur_sm w 8 ≤ li → ∀ c' n', ur_M 256 (ur_s L 6 (some (T ++ ur_bl w 8))) c' n' → post 0 (ur_y (nI li) cnt c' n' ys ye)) :
    wpY_put post (ur_y (nI li) cnt yc yn ys ye) w := ⟨9, yl_put5 li hli h hL hT k1 k0 8 0 rfl⟩
end
theorem i_vc_put {k : Nat} {u : SX} {v : SY} (I : i_Rel k u v) (hk : k + 4 ≤ 2050) (a0 : Int64) : wpX_put (fun r u' => wpY_put (fun r' v' => r' = r ∧ i_Rel (k + 4) u' v') v a0) u a0 := by
  refine ur_el (P := fun u v => wpX_put (fun r u' => wpY_put (fun r' v' => r' = r ∧ i_Rel (k + 4) u' v') v a0) u a0) I (fun li cn L0 bh m l fa ta wa c n s e hl h1 h2 h3 => ?_)
  obtain ⟨L, hM, hk1, hs1⟩ := h1
  obtain ⟨L', hM', hk2, hs2⟩ := h2
  obtain ⟨T, hT, hTl⟩ := h3.2
  refine xa_put li hl.2.1 hM ((hk1 6 (by decide)).trans hT) hTl (fun z => ?_) (fun z m1 l1 g1 => ?_)
  · refine ya_put li hl.2.1 hM' ((hk2 6 (by decide)).trans hT) hTl (fun _ => ⟨rfl, ur_rel hl ⟨L, hM, hk1, hs1⟩ ⟨L', hM', hk2, hs2⟩ h3⟩) (fun y => absurd y (by omega))
  · refine ya_put li hl.2.1 hM' ((hk2 6 (by decide)).trans hT) hTl (fun y => absurd y (by omega)) (fun _ c1 n1 g2 => ⟨rfl, ?_⟩)
    exact ur_rel hl (ur_St_put (by decide) g1 hk1 hs1) (ur_St_put (by decide) g2 hk2 hs2) (ur_Iv_in h3 (by rw [List.length_append, ur_bl_len]; exact z))
theorem i_vc_drop {k : Nat} {u : SX} {v : SY} (I : i_Rel k u v) (hk : k + 4 ≤ 2050) (v1 : Int32) : wpX_drop (fun r u' => wpY_drop (fun r' v' => r' = r ∧ i_Rel (k + 4) u' v') v v1) u v1 := by
  refine ur_el (P := fun u v => wpX_drop (fun r u' => wpY_drop (fun r' v' => r' = r ∧ i_Rel (k + 4) u' v') v v1) u v1) I (fun li cn L0 bh m l fa ta wa c n s e hl h1 h2 h3 => ?_)
  have R : i_Rel (k + 4) (ur_x bh (nI li) (nI cn) m l fa ta wa) (ur_y (nI li) (nI cn) c n s e) := ur_rel hl h1 h2 h3
  obtain ⟨L, hM, hk1, hs1⟩ := h1
  obtain ⟨L', hM', hk2, hs2⟩ := h2
  obtain ⟨T, hT, hTl⟩ := h3.2
  have hL := (hk1 6 (by decide)).trans hT
  have hL' := (hk2 6 (by decide)).trans hT
  have e1 : l 6 = nI T.length := ur_M_len hM (by decide) hL
  have e2 : n 6 = nI T.length := ur_M_len hM' (by decide) hL'
  unfold wpX_drop wpY_drop
  dsimp only
  rw [e1, e2]
  rcases pk_ix v1 (show T.length + 1 < 2 ^ 31 by omega) with z | z | ⟨j, hj, rfl⟩
  · exact br_t z (br_t z ⟨rfl, R⟩)
  · have z0 : ¬ v1 < 0 := fun q => Int32.lt_irrefl (Int32.lt_of_le_of_lt (Int32.le_trans (nI_pos' (show T.length + 1 < 2 ^ 31 by omega)) z) q)
    have z1 : ¬ v1 ≤ nI T.length := fun q => nI_ge (Nat.lt_succ_self _) (by omega) (Int32.le_trans z q)
    exact br_f z0 (br_f z1 (br_f z0 (br_f z1 ⟨rfl, R⟩)))
  · have z0 : ¬ nI j < 0 := nI_pos (by omega)
    have z1 : nI j ≤ nI T.length := nI_le (by omega) (by omega)
    rw [pk_sub (show j ≤ T.length by omega)]
    refine br_f z0 (br_t z1 (nm_e (br_f z0 (br_t z1 (nm_e ⟨rfl, ?_⟩)))))
    exact ur_rel hl (ur_St_put (by decide) (ur_M_cut hM (r := 6) (by decide) hL (by omega)) hk1 hs1) (ur_St_put (by decide) (ur_M_cut hM' (r := 6) (by decide) hL' (by omega)) hk2 hs2) (ur_Iv_in h3 (by rw [List.length_take]; omega))
theorem i_vc_clear {k : Nat} {u : SX} {v : SY} (I : i_Rel k u v) (hk : k + 4 ≤ 2050) : wpX_clear (fun u' => wpY_clear (fun v' => i_Rel (k + 4) u' v') v) u := by
  refine ur_el (P := fun u v => wpX_clear (fun u' => wpY_clear (fun v' => i_Rel (k + 4) u' v') v) u) I (fun li cn L0 bh m l fa ta wa c n s e hl h1 h2 h3 => ?_)
  obtain ⟨L, hM, hk1, hs1⟩ := h1
  obtain ⟨L', hM', hk2, hs2⟩ := h2
  refine nm_e (nm_e ?_)
  exact ur_rel hl (ur_St_put (by decide) (ur_M_nil hM) hk1 hs1) (ur_St_put (by decide) (ur_M_nil hM') hk2 hs2) (ur_Iv_in h3 (Nat.zero_le _))
theorem i_vc_textLimit {k : Nat} {u : SX} {v : SY} (I : i_Rel k u v) (hk : k + 4 ≤ 2050) : wpX_textLimit (fun r => wpY_textLimit (fun r' => r' = r ∧ i_Rel (k + 4) u v) v) u := by
  have J := i_up I
  revert J
  exact ur_el (P := fun u v => i_Rel (k + 4) u v → wpX_textLimit (fun r => wpY_textLimit (fun r' => r' = r ∧ i_Rel (k + 4) u v) v) u) I (fun li cn L0 bh m l fa ta wa c n s e hl h1 h2 h3 J => ⟨rfl, J⟩)
theorem i_vc_slotCount {k : Nat} {u : SX} {v : SY} (I : i_Rel k u v) (hk : k + 4 ≤ 2050) : wpX_slotCount (fun r => wpY_slotCount (fun r' => r' = r ∧ i_Rel (k + 4) u v) v) u := by
  have J := i_up I
  revert J
  exact ur_el (P := fun u v => i_Rel (k + 4) u v → wpX_slotCount (fun r => wpY_slotCount (fun r' => r' = r ∧ i_Rel (k + 4) u v) v) u) I (fun li cn L0 bh m l fa ta wa c n s e hl h1 h2 h3 J => ⟨rfl, J⟩)
theorem i_vc_inputLength {k : Nat} {u : SX} {v : SY} (I : i_Rel k u v) (hk : k + 4 ≤ 2050) : wpX_inputLength (fun r => wpY_inputLength (fun r' => r' = r ∧ i_Rel (k + 4) u v) v) u := by
  have J := i_up I
  revert J
  refine ur_el (P := fun u v => i_Rel (k + 4) u v → wpX_inputLength (fun r => wpY_inputLength (fun r' => r' = r ∧ i_Rel (k + 4) u v) v) u) I (fun li cn L0 bh m l fa ta wa c n s e hl h1 h2 h3 J => ⟨?_, J⟩)
  obtain ⟨L, hM, hk1, hs1⟩ := h1
  obtain ⟨L', hM', hk2, hs2⟩ := h2
  obtain ⟨T, hT, hTl⟩ := h3.2
  have e1 : l 6 = nI T.length := ur_M_len hM (by decide) ((hk1 6 (by decide)).trans hT)
  have e2 : n 6 = nI T.length := ur_M_len hM' (by decide) ((hk2 6 (by decide)).trans hT)
  exact e2.trans e1.symm
theorem i_vc_load {k : Nat} {u : SX} {v : SY} (I : i_Rel k u v) (hk : k + 4 ≤ 2050) (v1 : Int32) : wpX_load (fun r u' => wpY_load (fun r' v' => r' = r ∧ i_Rel (k + 4) u' v') v v1) u v1 := by
  refine ur_el (P := fun u v => wpX_load (fun r u' => wpY_load (fun r' v' => r' = r ∧ i_Rel (k + 4) u' v') v v1) u v1) I (fun li cn L0 bh m l fa ta wa c n s e hl h1 h2 h3 => ?_)
  have R : i_Rel (k + 4) (ur_x bh (nI li) (nI cn) m l fa ta wa) (ur_y (nI li) (nI cn) c n s e) := ur_rel hl h1 h2 h3
  obtain ⟨L, hM, hk1, hs1⟩ := h1
  obtain ⟨L', hM', hk2, hs2⟩ := h2
  obtain ⟨_, l40, _, c6⟩ := hl
  unfold wpX_load
  refine xa_inR c6 (fun o => br_t rfl ?_) (fun x hx ex => br_f (by decide) ?_)
  · unfold wpY_load
    refine ya_check c6 hM' (fun _ => br_f (by decide) ⟨rfl, R⟩) (fun a b d ha hb hd ea eb ed => ?_)
    rw [ea] at o; exact absurd o (ur_rg_no c6 ha)
  · subst ex
    rw [nI_clamp (show x < 2 ^ 31 by omega)]
    refine ⟨vp_in_nI (by omega) (by decide), ?_⟩
    have eL : L x = L0 x := hk1 x (by omega)
    have eL' : L' x = L0 x := hk2 x (by omega)
    cases hx0 : L0 x with
    | none =>
      rw [(hM x (by omega)).1 (eL.trans hx0)]
      refine br_f ur_m1le ?_
      unfold wpY_load
      refine ya_check c6 hM' (fun o => ?_) (fun a b d ha hb hd ea eb ed => ?_)
      · rcases o with o | o | o <;> exact absurd o (ur_rg_no c6 hx)
      · have e : x = a := (nI_eq (by omega) (by omega)).mp ea
        subst e
        rw [if_pos (Or.inl (by rw [eL', hx0]; rfl))]
        exact br_f (by decide) ⟨rfl, R⟩
    | some t =>
      have hg := h3.1 x (by omega) t hx0
      rw [ur_M_len hM (by omega) (eL.trans hx0)]
      refine br_t (nI_pos' (by omega)) (xa_copy x 6 hM (by omega) (by decide) (by omega) (eL.trans hx0) (fun m1 l1 g1 => ?_))
      unfold wpY_load
      refine ya_check c6 hM' (fun o => ?_) (fun a b d ha hb hd ea eb ed => ?_)
      · rcases o with o | o | o <;> exact absurd o (ur_rg_no c6 hx)
      · have e : x = a := (nI_eq (by omega) (by omega)).mp ea
        have e2 : x = b := (nI_eq (by omega) (by omega)).mp eb
        subst e
        subst e2
        rw [if_neg (by rw [eL', hx0]; intro q; rcases q with q | q <;> cases q)]
        refine br_t rfl (ya_copy x 6 hM' (by omega) (by decide) (by omega) (eL'.trans hx0) (fun c1 n1 g2 => ⟨rfl, ?_⟩))
        exact ur_rel ⟨by omega, l40, by omega, c6⟩ (ur_St_put (by decide) g1 hk1 hs1) (ur_St_put (by decide) g2 hk2 hs2) (ur_Iv_in h3 hg.1)
theorem i_vc_release {k : Nat} {u : SX} {v : SY} (I : i_Rel k u v) (hk : k + 4 ≤ 2050) (v1 : Int32) : wpX_release (fun r u' => wpY_release (fun r' v' => r' = r ∧ i_Rel (k + 4) u' v') v v1) u v1 := by
  refine ur_el (P := fun u v => wpX_release (fun r u' => wpY_release (fun r' v' => r' = r ∧ i_Rel (k + 4) u' v') v v1) u v1) I (fun li cn L0 bh m l fa ta wa c n s e hl h1 h2 h3 => ?_)
  have R : i_Rel (k + 4) (ur_x bh (nI li) (nI cn) m l fa ta wa) (ur_y (nI li) (nI cn) c n s e) := ur_rel hl h1 h2 h3
  obtain ⟨L, hM, hk1, hs1⟩ := h1
  obtain ⟨L', hM', hk2, hs2⟩ := h2
  have hl' := hl
  obtain ⟨_, l40, _, c6⟩ := hl
  unfold wpX_release
  refine xa_inR c6 (fun o => br_t rfl ?_) (fun x hx ex => br_f (by decide) ?_)
  · unfold wpY_release
    refine ya_check c6 hM' (fun _ => br_f (by decide) ⟨rfl, R⟩) (fun a b d ha hb hd ea eb ed => ?_)
    rw [ea] at o; exact absurd o (ur_rg_no c6 ha)
  · subst ex
    rw [nI_clamp (show x < 2 ^ 31 by omega)]
    have hv : vp_in (nI x) 11 := vp_in_nI (by omega) (by decide)
    refine ⟨hv, ?_⟩
    have eL : L x = L0 x := hk1 x (by omega)
    have eL' : L' x = L0 x := hk2 x (by omega)
    cases hx0 : L0 x with
    | none =>
      rw [(hM x (by omega)).1 (eL.trans hx0)]
      refine br_f ur_m1le ?_
      unfold wpY_release
      refine ya_check c6 hM' (fun o => ?_) (fun a b d ha hb hd ea eb ed => ?_)
      · rcases o with o | o | o <;> exact absurd o (ur_rg_no c6 hx)
      · have e : x = a := (nI_eq (by omega) (by omega)).mp ea
        subst e
        rw [if_pos (Or.inl (by rw [eL', hx0]; rfl))]
        exact br_f (by decide) ⟨rfl, R⟩
    | some t =>
      have hg := h3.1 x (by omega) t hx0
      rw [ur_M_len hM (by omega) (eL.trans hx0)]
      refine br_t (nI_pos' (by omega)) ⟨hv, nm_e ?_⟩
      unfold wpY_release
      refine ya_check c6 hM' (fun o => ?_) (fun a b d ha hb hd ea eb ed => ?_)
      · rcases o with o | o | o <;> exact absurd o (ur_rg_no c6 hx)
      · have e : x = a := (nI_eq (by omega) (by omega)).mp ea
        have e2 : x = b := (nI_eq (by omega) (by omega)).mp eb
        subst e
        subst e2
        rw [if_neg (by rw [eL', hx0]; intro q; rcases q with q | q <;> cases q), nI_clamp (show x < 2 ^ 31 by omega)]
        refine br_t rfl ⟨hv, nm_e ⟨rfl, ?_⟩⟩
        exact ur_rel hl' (ur_St_put (by omega) (ur_M_none hM) hk1 hs1) (ur_St_put (by omega) (ur_M_none hM') hk2 hs2) (ur_Iv_none h3 (by omega))
theorem i_vc_parse {k : Nat} {u : SX} {v : SY} (I : i_Rel k u v) (hk : k + 4 ≤ 2050) (v1 : Int32) : wpX_parse (fun r u' => wpY_parse (fun r' v' => r' = r ∧ i_Rel (k + 4) u' v') v v1) u v1 := by
  refine ur_el (P := fun u v => wpX_parse (fun r u' => wpY_parse (fun r' v' => r' = r ∧ i_Rel (k + 4) u' v') v v1) u v1) I (fun li cn L0 bh m l fa ta wa c n s e hl h1 h2 h3 => ?_)
  have hSX := h1
  have hSY := h2
  obtain ⟨L, hM, hk1, hs1⟩ := h1
  obtain ⟨L', hM', hk2, hs2⟩ := h2
  have hl' := hl
  obtain ⟨_, l40, _, c6⟩ := hl
  obtain ⟨T, hT, hTl⟩ := h3.2
  have hL := (hk1 6 (by decide)).trans hT
  have hL' := (hk2 6 (by decide)).trans hT
  unfold wpX_parse
  refine xa_inR c6 (fun o => br_t rfl ?_) (fun x hx ex => br_f (by decide) ?_)
  · have R : i_Rel (k + 4) (ur_x bh (nI li) (nI cn) m l fa ta wa) (ur_y (nI li) (nI cn) c n s e) := ur_rel hl' hSX hSY h3
    refine br_c (fun _ => ⟨rfl, R⟩) (fun z => br_f ?_ ⟨rfl, R⟩)
    rcases o with o | o
    · exact absurd o z
    · exact Int32.not_lt.mpr o
  · subst ex
    refine xa_split 6 hM (by decide) hL (fun fa' ta' hB _ => ?_)
    refine xa_check 6 hM (by decide) hL hB (fun wa' => ?_)
    refine br_c (fun z => ?_) (fun z => ?_)
    · refine xa_copy 6 x hM (by decide) (by omega) (by omega) hL (fun m1 l1 g1 => nm_e ?_)
      refine br_f (nI_pos (by omega)) (br_t (nI_lt hx (by omega)) (ya_judge 6 hM' (by decide) hL' ?_))
      refine br_t z (ya_copy 6 x hM' (by decide) (by omega) (by omega) hL' (fun c1 n1 g2 => nm_e ⟨z, ?_⟩))
      obtain ⟨A, hA, kA, sA⟩ := ur_St_put (L0 := L0) (show x < 7 by omega) g1 hk1 hs1
      obtain ⟨B, hB, kB, sB⟩ := ur_St_put (L0 := L0) (show x < 7 by omega) g2 hk2 hs2
      exact ur_rel hl' (ur_St_put (by decide) (ur_M_nil hA) kA sA) (ur_St_put (by decide) (ur_M_nil hB) kB sB) (ur_Iv_in (ur_Iv_put h3 (by omega) hTl (ur_J_good.mp z)) (Nat.zero_le _))
    · refine br_f (nI_pos (by omega)) (br_t (nI_lt hx (by omega)) (ya_judge 6 hM' (by decide) hL' ?_))
      exact br_f z ⟨rfl, ur_rel hl' hSX hSY h3⟩
end
section
/-! the getters -/
def ur_pk (T : List Int32) (a : Nat) : Nat → Nat → Int64 → Int64
  | 0, _, v => v
  | d + 1, i, v => ur_pk T a d (i + 1) ((v <<< ((8 : Int32).toInt64 &&& 63)) ||| (ur_at T (a + i)).toInt64)
/-- an empty slot, or none -/
def ur_bad (L : Nat → Option (List Int32)) (cn : Nat) (v : Int32) : Prop := ur_rg cn v ∨ ∃ s, s < cn ∧ v = nI s ∧ L s = none
theorem ur_slot (L : Nat → Option (List Int32)) (cn : Nat) (hc : cn ≤ 6) (v : Int32) : ur_bad L cn v ∨ ∃ s t, s < cn ∧ v = nI s ∧ L s = some t := by
  rcases ur_rg_or cn hc v with h | ⟨s, hs, e⟩
  · exact Or.inl (Or.inl h)
  · cases hL : L s with
    | none => exact Or.inl (Or.inr ⟨s, hs, e, hL⟩)
    | some t => exact Or.inr ⟨s, t, hs, e, hL⟩
section
variable {bh lim : Int32} {m l fa ta wa : Nat → Int32} {L0 L : Nat → Option (List Int32)} {T : List Int32} {cn : Nat} {v : Int32}
theorem xa_fil0 {post : Int32 → Prop} (hc : cn ≤ 6) (h : ur_M 128 L m l) (hk : ∀ j, j < 7 → L j = L0 j) (hb : ur_bad L0 cn v) (k : post 0) : wpX_isFilled post (ur_x bh lim (nI cn) m l fa ta wa) v := by
  refine xa_fil hc h (fun _ => k) (fun s hs e => ?_)
  rcases hb with o | ⟨s', hs', e', hn⟩
  · rw [e] at o; exact absurd o (ur_rg_no hc hs)
  · have : s = s' := (nI_eq (by omega) (by omega)).mp (e.symm.trans e')
    subst this
    rw [hk s (by omega), hn]; exact k
theorem xa_fil1 {post : Int32 → Prop} (s : Nat) (hc : cn ≤ 6) (h : ur_M 128 L m l) (hk : ∀ j, j < 7 → L j = L0 j) (hs : s < cn) (hT : L0 s = some T) (k : post 1) : wpX_isFilled post (ur_x bh lim (nI cn) m l fa ta wa) (nI s) := by
  refine xa_fil hc h (fun o => absurd o (ur_rg_no hc hs)) (fun s' hs' e => ?_)
  have : s = s' := (nI_eq (by omega) (by omega)).mp e
  subst this
  rw [hk s (by omega), hT]; exact k
theorem xl_pack {post : Int64 → Prop} (r a : Nat) (hr : r < 11) (h : ur_M 128 L m l) (hL : L r = some T) (ha : a < T.length) : ∀ (d i : Nat) (v : Int64), i + d = 8 → post (ur_pk T a d i v) →
    wX_pack_24 post (nI r) (nI a) (nI T.length) 128 6 7 8 9 10 bh lim (nI cn) m l fa ta wa (d + 1) v (nI i) := by
  have h8 := ur_M_le h hr hL
  intro d
  induction d with
  | zero =>
    intro i v hi k
    have e : i = 8 := by omega
    subst e
    exact br_t (by decide) k
  | succ d ih =>
    intro i v hi k
    rw [ur_pk] at k
    rw [wX_pack_24]
    dsimp only
    rw [nI_add, ur_m128, nI_add, nI_add, nI_clamp (show r * 128 + a + i < 2 ^ 31 by omega)]
    refine br_f (nI_ge (b := 8) (by omega) (by decide)) (nm_e (pk_le T.length (a + i) (fun z => nm_r (nI_1 _) ?_) (fun z => ⟨vp_in_nI (by omega) (by decide), ?_⟩)))
    · rw [ur_at_big _ _ z, show (0 : Int32).toInt64 = 0 from rfl, Int64.or_zero] at k
      exact ih (i + 1) _ (by omega) k
    · rw [Nat.add_assoc, ur_M_at h hr hL (show a + i < T.length by omega)]
      exact nm_e (nm_r (nI_1 _) (ih (i + 1) _ (by omega) k))
theorem xa_pack {post : Int64 → Prop} (r : Nat) {p1 : Int32} (hr : r < 11) (h : ur_M 128 L m l) (hL : L r = some T) (ko : (p1 < 0 ∨ nI T.length ≤ p1) → post 0) (ki : ∀ a, a < T.length → p1 = nI a → post (ur_pk T a 8 0 0)) : wpX_pack post (ur_x bh lim (nI cn) m l fa ta wa) (nI r) p1 := by
  have h8 := ur_M_le h hr hL
  unfold wpX_pack
  dsimp only
  rw [nI_clamp (show r < 2 ^ 31 by omega)]
  refine ⟨vp_in_nI hr (by decide), nm_r (ur_M_len h hr hL) ?_⟩
  rcases pk_ix p1 (show T.length < 2 ^ 31 by omega) with z | z | ⟨a, ha, rfl⟩
  · exact br_t z (ko (Or.inl z))
  · exact br_c (fun _ => ko (Or.inr z)) (fun _ => br_f (Int32.not_lt.mpr z) (ko (Or.inr z)))
  · exact br_f (nI_pos (by omega)) (br_t (nI_lt ha (by omega)) ⟨9, xl_pack r a hr h hL ha 8 0 0 rfl (ki a ha rfl)⟩)
theorem xa_kind {post : Int32 → Prop} {k : Int32} (f : (k < 0 ∨ nI 8 ≤ k) → post 0) (g : ∀ j, j < 8 → k = nI j → post 1) : wpX_isKind post (ur_x bh lim (nI cn) m l fa ta wa) k := by
  rcases pk_ix k (show 8 < 2 ^ 31 by decide) with z | z | ⟨j, hj, rfl⟩
  · exact br_t z (f (Or.inl z))
  · exact br_c (fun _ => f (Or.inr z)) (fun _ => br_t (Int32.lt_of_lt_of_le (show (7 : Int32) < nI 8 by decide) z) (f (Or.inr z)))
  · exact br_f (nI_pos (by omega)) (br_f (nI_nlt (a := 7) (by omega) (by decide)) (g j hj rfl))
end
section
variable {lim : Int32} {yc yn ys ye : Nat → Int32} {L0 L : Nat → Option (List Int32)} {T : List Int32} {cn : Nat} {v : Int32}
theorem ya_chk0 {post : Int32 → Prop} (hc : cn ≤ 6) (h : ur_M 256 L yc yn) (hk : ∀ j, j < 7 → L j = L0 j) (hb : ur_bad L0 cn v) (k : ∀ x : Int32, ¬ x = 0 → post x) : wpY_check post (ur_y lim (nI cn) yc yn ys ye) v v v := by
  refine ya_check hc h (fun _ => k 2 (by decide)) (fun s t d hs ht hd es et ed => ?_)
  rcases hb with o | ⟨s', hs', e', hn⟩
  · rw [es] at o; exact absurd o (ur_rg_no hc hs)
  · have : s = s' := (nI_eq (by omega) (by omega)).mp (es.symm.trans e')
    subst this
    rw [if_pos (Or.inl (by rw [hk s (by omega), hn]; rfl))]; exact k 3 (by decide)
theorem ya_chk1 {post : Int32 → Prop} (s : Nat) (hc : cn ≤ 6) (h : ur_M 256 L yc yn) (hk : ∀ j, j < 7 → L j = L0 j) (hs : s < cn) (hT : L0 s = some T) (k : post 0) : wpY_check post (ur_y lim (nI cn) yc yn ys ye) (nI s) (nI s) (nI s) := by
  refine ya_check hc h (fun o => ?_) (fun a b d ha hb hd ea eb ed => ?_)
  · rcases o with o | o | o <;> exact absurd o (ur_rg_no hc hs)
  · have e1 : s = a := (nI_eq (by omega) (by omega)).mp ea
    have e2 : s = b := (nI_eq (by omega) (by omega)).mp eb
    subst e1
    subst e2
    rw [if_neg (by rw [hk s (by omega), hT]; intro q; rcases q with q | q <;> cases q)]; exact k
theorem yl_pack {post : Int64 → Prop} (r a : Nat) (hr : r < 11) (h : ur_M 256 L yc yn) (hL : L r = some T) (ha : a < T.length) : ∀ (d i : Nat) (v : Int64), i + d = 8 → post (ur_pk T a d i v) →
    wY_pack_5 post (nI r) (nI a) lim (nI cn) yc yn ys ye (d + 1) v (nI i) := by
  have h8 := ur_M_le h hr hL
  intro d
  induction d with
  | zero =>
    intro i v hi k
    have e : i = 8 := by omega
    subst e
    exact br_t (by decide) k
  | succ d ih =>
    intro i v hi k
    rw [ur_pk] at k
    rw [wY_pack_5]
    dsimp only
    rw [nI_add]
    refine br_f (nI_ge (b := 8) (by omega) (by decide)) (ya_at r (a + i) h hr hL (by omega) (nm_e (nm_r (nI_1 _) (ih (i + 1) _ (by omega) k))))
theorem ya_pack {post : Int64 → Prop} (r a : Nat) (hr : r < 11) (h : ur_M 256 L yc yn) (hL : L r = some T) (ha : a < T.length) (k : post (ur_pk T a 8 0 0)) : wpY_pack post (ur_y lim (nI cn) yc yn ys ye) (nI r) (nI a) :=
  ⟨9, yl_pack r a hr h hL ha 8 0 0 rfl k⟩
theorem ya_len0 {post : Int32 → Prop} (hc : cn ≤ 6) (h : ur_M 256 L yc yn) (hk : ∀ j, j < 7 → L j = L0 j) (hb : ur_bad L0 cn v) (k : post (-1)) : wpY_length post (ur_y lim (nI cn) yc yn ys ye) v := by
  unfold wpY_length
  exact ya_chk0 hc h hk hb (fun _ hx => br_f hx k)
theorem ya_len1 {post : Int32 → Prop} (s : Nat) (hc : cn ≤ 6) (h : ur_M 256 L yc yn) (hk : ∀ j, j < 7 → L j = L0 j) (hs : s < cn) (hT : L0 s = some T) (k : post (nI T.length)) : wpY_length post (ur_y lim (nI cn) yc yn ys ye) (nI s) := by
  unfold wpY_length
  refine ya_chk1 s hc h hk hs hT (br_t rfl ⟨vp_in_nI (by omega) (by decide), ?_⟩)
  rw [nI_clamp (show s < 2 ^ 31 by omega), ur_M_len h (by omega) ((hk s (by omega)).trans hT)]
  exact k
theorem ya_start0 {post : Int32 → Prop} {kd : Int32} (hc : cn ≤ 6) (h : ur_M 256 L yc yn) (hk : ∀ j, j < 7 → L j = L0 j) (hb : ur_bad L0 cn v) (k : post (-1)) : wpY_start post (ur_y lim (nI cn) yc yn ys ye) v kd := by
  unfold wpY_start
  exact br_c (fun _ => k) (fun _ => br_c (fun _ => k) (fun _ => ya_chk0 hc h hk hb (fun _ hx => br_f hx k)))
theorem ya_startk {post : Int32 → Prop} {kd : Int32} {u : SY} (hkd : kd < 0 ∨ nI 8 ≤ kd) (k : post (-1)) : wpY_start post u v kd := by
  unfold wpY_start
  refine br_c (fun _ => k) (fun z => br_t ?_ k)
  rcases hkd with w | w
  · exact absurd w z
  · exact Int32.lt_of_lt_of_le (show (7 : Int32) < nI 8 by decide) w
theorem ya_start1 {post : Int32 → Prop} (s kd : Nat) (hc : cn ≤ 6) (h : ur_M 256 L yc yn) (hk : ∀ j, j < 7 → L j = L0 j) (hs : s < cn) (hT : L0 s = some T) (hkd : kd < 8) (k : post (ur_E T kd 0)) : wpY_start post (ur_y lim (nI cn) yc yn ys ye) (nI s) (nI kd) := by
  unfold wpY_start
  refine br_f (nI_pos (by omega)) (br_f (nI_nlt (a := 7) (by omega) (by decide)) (ya_chk1 s hc h hk hs hT (br_t rfl ?_)))
  exact ya_begin s kd h (by omega) ((hk s (by omega)).trans hT) hkd k
def ur_sz (T : List Int32) (kd : Nat) : Int32 := if (ur_B T kd).isSome = true then nI (ur_C T kd).length else -1
theorem ya_size1 {post : Int32 → Prop} (s kd : Nat) (hc : cn ≤ 6) (h : ur_M 256 L yc yn) (hk : ∀ j, j < 7 → L j = L0 j) (hs : s < cn) (hT : L0 s = some T) (hkd : kd < 8) (k : post (ur_sz T kd)) : wpY_size post (ur_y lim (nI cn) yc yn ys ye) (nI s) (nI kd) := by
  have h8 := ur_M_le h (show s < 11 by omega) ((hk s (by omega)).trans hT)
  unfold wpY_size
  refine ya_start1 s kd hc h hk hs hT hkd ?_
  unfold ur_sz at k
  cases hB : ur_B T kd with
  | none => rw [ur_E_n hB]; rw [hB] at k; exact br_f ur_m1le k
  | some p =>
    have q := ur_B_b (a := p.1) (b := p.2) hB
    rw [hB, if_pos (show (some p).isSome = true from rfl), ur_C_s (a := p.1) (b := p.2) hB, ur_ex_len q.2] at k
    rw [ur_E_0 (a := p.1) (b := p.2) hB]
    refine br_t (nI_pos' (by omega)) (ya_end s kd h (by omega) ((hk s (by omega)).trans hT) hkd ?_)
    rw [ur_E_1 (a := p.1) (b := p.2) hB, pk_sub q.1]
    exact k
theorem ya_size0 {post : Int32 → Prop} {kd : Int32} (hc : cn ≤ 6) (h : ur_M 256 L yc yn) (hk : ∀ j, j < 7 → L j = L0 j) (hb : ur_bad L0 cn v) (k : post (-1)) : wpY_size post (ur_y lim (nI cn) yc yn ys ye) v kd := by
  unfold wpY_size
  exact ya_start0 hc h hk hb (br_f ur_m1le k)
theorem ya_sizek {post : Int32 → Prop} {kd : Int32} (hkd : kd < 0 ∨ nI 8 ≤ kd) (k : post (-1)) : wpY_size post (ur_y lim (nI cn) yc yn ys ye) v kd := by
  unfold wpY_size
  exact ya_startk hkd (br_f ur_m1le k)
end
theorem i_vc_readInput {k : Nat} {u : SX} {v : SY} (I : i_Rel k u v) (hk : k + 4 ≤ 2050) (v1 : Int32) : wpX_readInput (fun r => wpY_readInput (fun r' => r' = r ∧ i_Rel (k + 4) u v) v v1) u v1 := by
  have J := i_up I
  revert J
  refine ur_el (P := fun u v => i_Rel (k + 4) u v → wpX_readInput (fun r => wpY_readInput (fun r' => r' = r ∧ i_Rel (k + 4) u v) v v1) u v1) I (fun li cn L0 bh m l fa ta wa c n s e hl h1 h2 h3 J => ?_)
  obtain ⟨L, hM, hk1, hs1⟩ := h1
  obtain ⟨L', hM', hk2, hs2⟩ := h2
  obtain ⟨T, hT, hTl⟩ := h3.2
  have e2 : n 6 = nI T.length := ur_M_len hM' (by decide) ((hk2 6 (by decide)).trans hT)
  unfold wpX_readInput wpY_readInput
  dsimp only
  rw [e2]
  refine xa_pack 6 (by decide) hM ((hk1 6 (by decide)).trans hT) (fun z => ?_) (fun a ha ea => ?_)
  · refine br_c (fun _ => ⟨rfl, J⟩) (fun y => br_f ?_ ⟨rfl, J⟩)
    rcases z with z | z
    · exact absurd z y
    · exact Int32.not_lt.mpr z
  · subst ea
    exact br_f (nI_pos (by omega)) (br_t (nI_lt ha (by omega)) (ya_pack 6 a (by decide) hM' ((hk2 6 (by decide)).trans hT) ha ⟨rfl, J⟩))
theorem i_vc_length {k : Nat} {u : SX} {v : SY} (I : i_Rel k u v) (hk : k + 4 ≤ 2050) (v1 : Int32) : wpX_length (fun r => wpY_length (fun r' => r' = r ∧ i_Rel (k + 4) u v) v v1) u v1 := by
  have J := i_up I
  revert J
  refine ur_el (P := fun u v => i_Rel (k + 4) u v → wpX_length (fun r => wpY_length (fun r' => r' = r ∧ i_Rel (k + 4) u v) v v1) u v1) I (fun li cn L0 bh m l fa ta wa c n s e hl h1 h2 h3 J => ?_)
  obtain ⟨L, hM, hk1, hs1⟩ := h1
  obtain ⟨L', hM', hk2, hs2⟩ := h2
  unfold wpX_length
  rcases ur_slot L0 cn hl.2.2.2 v1 with hb | ⟨x, T, hx, rfl, hT⟩
  · exact xa_fil0 hl.2.2.2 hM hk1 hb (br_t rfl (ya_len0 hl.2.2.2 hM' hk2 hb ⟨rfl, J⟩))
  · refine xa_fil1 x hl.2.2.2 hM hk1 hx hT (br_f (by decide) ⟨vp_in_nI (by omega) (by decide), ?_⟩)
    rw [nI_clamp (show x < 2 ^ 31 by omega), ur_M_len hM (by omega) ((hk1 x (by omega)).trans hT)]
    exact ya_len1 x hl.2.2.2 hM' hk2 hx hT ⟨rfl, J⟩
theorem i_vc_read {k : Nat} {u : SX} {v : SY} (I : i_Rel k u v) (hk : k + 4 ≤ 2050) (v1 : Int32) (v2 : Int32) : wpX_read (fun r => wpY_read (fun r' => r' = r ∧ i_Rel (k + 4) u v) v v1 v2) u v1 v2 := by
  have J := i_up I
  revert J
  refine ur_el (P := fun u v => i_Rel (k + 4) u v → wpX_read (fun r => wpY_read (fun r' => r' = r ∧ i_Rel (k + 4) u v) v v1 v2) u v1 v2) I (fun li cn L0 bh m l fa ta wa c n s e hl h1 h2 h3 J => ?_)
  obtain ⟨L, hM, hk1, hs1⟩ := h1
  obtain ⟨L', hM', hk2, hs2⟩ := h2
  unfold wpX_read wpY_read
  rcases ur_slot L0 cn hl.2.2.2 v1 with hb | ⟨x, T, hx, rfl, hT⟩
  · refine xa_fil0 hl.2.2.2 hM hk1 hb (br_t rfl (br_c (fun _ => ⟨rfl, J⟩) (fun z => ya_len0 hl.2.2.2 hM' hk2 hb (br_f (fun y => z (Int32.lt_trans y (by decide))) ⟨rfl, J⟩))))
  · have hg := h3.1 x (by omega) T hT
    refine xa_fil1 x hl.2.2.2 hM hk1 hx hT (br_f (by decide) ?_)
    refine xa_pack x (by omega) hM ((hk1 x (by omega)).trans hT) (fun z => ?_) (fun a ha ea => ?_)
    · refine br_c (fun _ => ⟨rfl, J⟩) (fun y => ya_len1 x hl.2.2.2 hM' hk2 hx hT (br_f ?_ ⟨rfl, J⟩))
      rcases z with z | z
      · exact absurd z y
      · exact Int32.not_lt.mpr z
    · subst ea
      refine br_f (nI_pos (by omega)) (ya_len1 x hl.2.2.2 hM' hk2 hx hT (br_t (nI_lt ha (by omega)) ?_))
      exact ya_pack x a (by omega) hM' ((hk2 x (by omega)).trans hT) ha ⟨rfl, J⟩
theorem i_vc_start {k : Nat} {u : SX} {v : SY} (I : i_Rel k u v) (hk : k + 4 ≤ 2050) (v1 : Int32) (v2 : Int32) : wpX_start (fun r u' => wpY_start (fun r' => r' = r ∧ i_Rel (k + 4) u' v) v v1 v2) u v1 v2 := by
  refine ur_el (P := fun u v => wpX_start (fun r u' => wpY_start (fun r' => r' = r ∧ i_Rel (k + 4) u' v) v v1 v2) u v1 v2) I (fun li cn L0 bh m l fa ta wa c n s e hl h1 h2 h3 => ?_)
  have R : ∀ bh fa ta wa, i_Rel (k + 4) (ur_x bh (nI li) (nI cn) m l fa ta wa) (ur_y (nI li) (nI cn) c n s e) := fun bh fa ta wa => ur_rel hl h1 h2 h3
  obtain ⟨L, hM, hk1, hs1⟩ := h1
  obtain ⟨L', hM', hk2, hs2⟩ := h2
  obtain ⟨_, l40, _, c6⟩ := hl
  unfold wpX_start
  rcases ur_slot L0 cn c6 v1 with hb | ⟨x, T, hx, rfl, hT⟩
  · exact xa_fil0 c6 hM hk1 hb (br_t rfl (ya_start0 c6 hM' hk2 hb ⟨rfl, R _ _ _ _⟩))
  · have hL := (hk1 x (by omega)).trans hT
    have h8 := ur_M_le hM (show x < 11 by omega) hL
    refine xa_fil1 x c6 hM hk1 hx hT (br_f (by decide) (xa_kind (fun z => br_t rfl (ya_startk z ⟨rfl, R _ _ _ _⟩)) (fun kd hkd ek => br_f (by decide) ?_)))
    subst ek
    refine xa_split x hM (by omega) hL (fun fa' ta' hB _ => ?_)
    refine xa_has x kd (by omega) hkd hB h8 ?_
    cases hz : ur_B T kd with
    | none => exact br_t rfl (ya_start1 x kd c6 hM' hk2 hx hT hkd ⟨by rw [ur_E_n hz], R _ _ _ _⟩)
    | some p =>
      have q := ur_B_b (a := p.1) (b := p.2) hz
      refine br_f (show ¬ ur_b true = 0 by decide) ?_
      dsimp only
      rw [ur_m8, ur_ic x kd (by omega) hkd, (hB kd hkd).1, ur_fX_s (a := p.1) (b := p.2) hz, ur_m128, pk_sub (by omega)]
      refine ⟨ur_iv x kd (by omega) hkd, ya_start1 x kd c6 hM' hk2 hx hT hkd ⟨?_, R _ _ _ _⟩⟩
      rw [ur_E_0 (a := p.1) (b := p.2) hz]; exact congrArg nI (by omega)
theorem i_vc_size {k : Nat} {u : SX} {v : SY} (I : i_Rel k u v) (hk : k + 4 ≤ 2050) (v1 : Int32) (v2 : Int32) : wpX_size (fun r u' => wpY_size (fun r' => r' = r ∧ i_Rel (k + 4) u' v) v v1 v2) u v1 v2 := by
  refine ur_el (P := fun u v => wpX_size (fun r u' => wpY_size (fun r' => r' = r ∧ i_Rel (k + 4) u' v) v v1 v2) u v1 v2) I (fun li cn L0 bh m l fa ta wa c n s e hl h1 h2 h3 => ?_)
  have R : ∀ bh fa ta wa, i_Rel (k + 4) (ur_x bh (nI li) (nI cn) m l fa ta wa) (ur_y (nI li) (nI cn) c n s e) := fun bh fa ta wa => ur_rel hl h1 h2 h3
  obtain ⟨L, hM, hk1, hs1⟩ := h1
  obtain ⟨L', hM', hk2, hs2⟩ := h2
  obtain ⟨_, l40, _, c6⟩ := hl
  unfold wpX_size
  rcases ur_slot L0 cn c6 v1 with hb | ⟨x, T, hx, rfl, hT⟩
  · exact xa_fil0 c6 hM hk1 hb (br_t rfl (ya_size0 c6 hM' hk2 hb ⟨rfl, R _ _ _ _⟩))
  · have hL := (hk1 x (by omega)).trans hT
    have h8 := ur_M_le hM (show x < 11 by omega) hL
    refine xa_fil1 x c6 hM hk1 hx hT (br_f (by decide) (xa_kind (fun z => br_t rfl (ya_sizek z ⟨rfl, R _ _ _ _⟩)) (fun kd hkd ek => br_f (by decide) ?_)))
    subst ek
    refine xa_split x hM (by omega) hL (fun fa' ta' hB _ => ?_)
    refine xa_has x kd (by omega) hkd hB h8 ?_
    cases hz : ur_B T kd with
    | none => exact br_t rfl (ya_size1 x kd c6 hM' hk2 hx hT hkd ⟨by unfold ur_sz; rw [hz]; rfl, R _ _ _ _⟩)
    | some p =>
      have q := ur_B_b (a := p.1) (b := p.2) hz
      refine br_f (show ¬ ur_b true = 0 by decide) ?_
      dsimp only
      rw [ur_m8, ur_ic x kd (by omega) hkd, (hB kd hkd).1, (hB kd hkd).2, ur_fX_s (a := p.1) (b := p.2) hz, ur_tX_s (a := p.1) (b := p.2) hz, pk_sub (by omega)]
      refine ⟨ur_iv x kd (by omega) hkd, ur_iv x kd (by omega) hkd, ya_size1 x kd c6 hM' hk2 hx hT hkd ⟨?_, R _ _ _ _⟩⟩
      unfold ur_sz
      rw [hz, if_pos (show (some p).isSome = true from rfl), ur_C_s (a := p.1) (b := p.2) hz, ur_ex_len q.2]; exact congrArg nI (by omega)
end
section
/-! the getters, II -/
def ur_hkd (T : List Int32) : Int32 := if (ur_B T 2).isSome = false then 0 else if ur_C T 2 = [] then 1 else if ur_at (ur_C T 2) 0 = 91 then 3 else 2
section
variable {bh lim : Int32} {m l fa ta wa : Nat → Int32} {L0 L : Nat → Option (List Int32)} {T : List Int32} {cn : Nat} {v : Int32}
theorem xa_hkd {post : Int32 → SX → Prop} (s : Nat) (hc : cn ≤ 6) (h : ur_M 128 L m l) (hk : ∀ j, j < 7 → L j = L0 j) (hs : s < cn) (hT : L0 s = some T)
    (k : ∀ bh' fa' ta', ur_BX s T fa' ta' → post (ur_hkd T) (ur_x bh' lim (nI cn) m l fa' ta' wa)) : wpX_hostKind post (ur_x bh lim (nI cn) m l fa ta wa) (nI s) := by
  have hL := (hk s (by omega)).trans hT
  have h8 := ur_M_le h (show s < 11 by omega) hL
  have v2 : vp_in (nI (s * 8) + 2) 88 := ur_iv s 2 (by omega) (by decide)
  have i2 : (nI (s * 8) + 2).toNatClampNeg = s * 8 + 2 := ur_ic s 2 (by omega) (by decide)
  unfold wpX_hostKind
  refine xa_fil1 s hc h hk hs hT (br_f (by decide) (xa_split s h (by omega) hL (fun fa' ta' hB _ => ?_)))
  have k := k (ur_b (ur_bro T)) fa' ta' hB
  unfold ur_hkd at k
  refine xa_has s 2 (by omega) (by decide) hB h8 ?_
  cases hz : ur_B T 2 with
  | none => rw [hz] at k; exact br_t rfl k
  | some p =>
    have q := ur_B_b (a := p.1) (b := p.2) hz
    rw [hz, if_neg (show ¬ (some p).isSome = false by simp), ur_C_s (a := p.1) (b := p.2) hz] at k
    refine br_f (show ¬ ur_b true = 0 by decide) ?_
    rw [ur_m8, i2, (hB 2 (by decide)).1, (hB 2 (by decide)).2, ur_fX_s (a := p.1) (b := p.2) hz, ur_tX_s (a := p.1) (b := p.2) hz]
    refine ⟨v2, nm_e ⟨v2, nm_e (pk_lt (s * 128 + p.1) (s * 128 + p.2) (fun z => ⟨vp_in_nI (by omega) (by decide), ?_⟩) (fun z => ?_))⟩⟩
    · rw [if_neg (by rw [ur_ex_cons (by omega) q.2]; simp), ur_ex_at (by omega), Nat.add_zero] at k
      rw [nI_clamp (show s * 128 + p.1 < 2 ^ 31 by omega), ur_M_at h (by omega) hL (by omega)]
      refine br_c (fun w => ?_) (fun w => ?_)
      · rw [if_pos w] at k; exact k
      · rw [if_neg w] at k; exact k
    · rw [if_pos (ur_ex_nil (by omega))] at k; exact k
end
section
variable {lim : Int32} {yc yn ys ye : Nat → Int32} {L0 L : Nat → Option (List Int32)} {T : List Int32} {cn : Nat} {v : Int32}
theorem ya_hkd {post : Int32 → Prop} (s : Nat) (hc : cn ≤ 6) (h : ur_M 256 L yc yn) (hk : ∀ j, j < 7 → L j = L0 j) (hs : s < cn) (hT : L0 s = some T) (k : post (ur_hkd T)) : wpY_hostKind post (ur_y lim (nI cn) yc yn ys ye) (nI s) := by
  have hL := (hk s (by omega)).trans hT
  have h8 := ur_M_le h (show s < 11 by omega) hL
  unfold wpY_hostKind
  refine ya_start1 s 2 hc h hk hs hT (by decide) (ya_size1 s 2 hc h hk hs hT (by decide) ?_)
  unfold ur_hkd at k
  unfold ur_sz
  cases hz : ur_B T 2 with
  | none => rw [hz] at k; exact br_f ur_m1le k
  | some p =>
    have q := ur_B_b (a := p.1) (b := p.2) hz
    rw [hz, if_neg (show ¬ (some p).isSome = false by simp), ur_C_s (a := p.1) (b := p.2) hz] at k
    rw [if_pos (show (some p).isSome = true from rfl), ur_C_s (a := p.1) (b := p.2) hz, ur_ex_len q.2, ur_E_0 (a := p.1) (b := p.2) hz]
    refine br_t (nI_pos' (by omega)) (pk_eq (p.2 - p.1) 0 (fun z => ?_) (fun z => ya_at s p.1 h (by omega) hL (by omega) ?_))
    · rw [if_pos (ur_ex_nil (by omega))] at k; exact k
    · rw [if_neg (by rw [ur_ex_cons (by omega) q.2]; simp), ur_ex_at (by omega), Nat.add_zero] at k
      refine br_c (fun w => ?_) (fun w => ?_)
      · rw [if_pos w] at k; exact k
      · rw [if_neg w] at k; exact k
theorem ya_hkd0 {post : Int32 → Prop} (hc : cn ≤ 6) (h : ur_M 256 L yc yn) (hk : ∀ j, j < 7 → L j = L0 j) (hb : ur_bad L0 cn v) (k : post 0) : wpY_hostKind post (ur_y lim (nI cn) yc yn ys ye) v := by
  unfold wpY_hostKind
  exact ya_start0 hc h hk hb (ya_size0 hc h hk hb (br_f ur_m1le k))
theorem yl_pvl {post : Int32 → Prop} (s a len : Nat) (hs : s < 11) (h : ur_M 256 L yc yn) (hL : L s = some T) (hl : 0 < len) : ∀ (x : List Int32) (i n v : Nat), ur_G T.length (ur_at T) (a + i) x → i + x.length = len → n ≤ 65535 → ur_pv n x = some v → post (nI v) →
    wY_portValue_20 post (nI s) (nI a) (nI len) lim (nI cn) yc yn ys ye (x.length + 1) (nI n) (nI i)
  | [], i, n, v, hG, hi, hn, hv, k => by
    have h8 := ur_M_le h hs hL
    have g := hG.1
    simp only [List.length_nil, Nat.add_zero] at hi g
    cases hv
    exact br_t (nI_le (by omega) (by omega)) (br_t (nI_pos' (by omega)) (br_f (nI_ne0 hl (by omega)) k))
  | c :: x, i, n, v, hG, hi, hn, hv, k => by
    have h8 := ur_M_le h hs hL
    have g := hG.1
    obtain ⟨h1, h2, h3⟩ := ur_G_cons hG
    simp only [List.length_cons] at hi g
    rw [ur_pv] at hv
    split at hv
    · rename_i z
      split at hv
      · rename_i y
        rw [wY_portValue_20]
        dsimp only
        rw [nI_add]
        refine br_f (nI_ge (by omega) (by omega)) (ya_at s (a + i) h hs hL (by omega) ?_)
        have ev : nI n * 10 + c - 48 = nI (n * 10 + ur_dv c) := by
          have e1 : c = nI (48 + ur_dv c) := (ur_dv_e z).2
          have e2 : nI n * 10 + c = nI (n * 10 + (48 + ur_dv c)) := by rw [← nI_add, ← pk_mul, ← e1]; rfl
          rw [e2, show (48 : Int32) = nI 48 from rfl, pk_sub (by omega)]
          exact congrArg nI (by omega)
        rw [h2]
        exact nm_r ev (nm_r (nI_1 _) (yl_pvl s a len hs h hL hl x (i + 1) _ v h3 (by omega) y hv k))
      · cases hv
    · cases hv
end
/-- the value of a group, as the reference finds it -/
def ur_gv (w : List Int32) (i : Nat) : Int32 := match ur_gp w with
  | none => ur_yL (nI i) w
  | some g => if i < (ur_cN (w.take g)).getD 0 then ur_yL (nI i) (w.take g) else if i < 8 - (ur_cN (w.drop (g + 2))).getD 0 then 0 else ur_yL (nI (i + (ur_cN (w.drop (g + 2))).getD 0 - 8)) (w.drop (g + 2))
theorem ur_fwL {w : List Int32} {n i t : Nat} {wd : Nat → Int32} (hc : ur_cN w = some n) (hw : w.length < 900) (hi : i < n) (ht : t + i < 8) (hz : ∀ j, t ≤ j → j < 8 → wd j = 0) : ur_fw t wd w (t + i) = ur_yL (nI i) w := by
  cases w with
  | nil => cases hc; omega
  | cons c w =>
    have hc' : ur_cl' (0 + 1) 0 (c :: w) = some n := hc
    have e := ur_cl'_n _ _ _ _ hc'
    have q := ur_fw_v (c :: w) 0 0 i t 0 wd n hc' (by decide) (by omega) (by omega) ht (hz t (Nat.le_refl _) (by omega)) (fun j hj hj8 => hz j (by omega) hj8)
    rw [Nat.zero_add] at q
    exact q
theorem ur_fwO {w : List Int32} {n : Nat} {wd : Nat → Int32} {j : Nat} (hc : ur_cN w = some n) (hj : n ≤ j) : ur_fw 0 wd w j = wd j := by
  cases w with
  | nil => rfl
  | cons c w =>
    have hc' : ur_cl' 1 0 (c :: w) = some n := hc
    have e := ur_cl'_n _ _ _ _ hc'
    exact ur_fw_o _ 0 wd j (by omega)
theorem ur_wd_v {w : List Int32} {z : Nat → Int32} {i : Nat} (ha : ur_ad w = true) (hw : w.length < 900) (hz : ∀ j, j < 8 → z j = 0) (hi : i < 8) : ur_wd w z i = ur_gv w i := by
  unfold ur_wd ur_gv
  unfold ur_ad at ha
  cases hg : ur_gp w with
  | none =>
    rw [hg] at ha
    have hc : ur_cN w = some 8 := of_decide_eq_true ha
    have q := ur_fwL (t := 0) (wd := z) hc hw hi (by omega) (fun j _ hj => hz j hj)
    rw [Nat.zero_add] at q
    exact q
  | some g =>
    rw [hg] at ha
    dsimp only at ha ⊢
    cases c1 : ur_cN (w.take g) with
    | none => rw [c1] at ha; cases ha
    | some n1 =>
      cases c2 : ur_cN (w.drop (g + 2)) with
      | none => rw [c1, c2] at ha; cases ha
      | some n2 =>
        rw [c1, c2] at ha
        have h7 : n1 + n2 ≤ 7 := of_decide_eq_true ha
        show ur_fw (8 - n2) (ur_fw 0 z (w.take g)) (w.drop (g + 2)) i = if i < n1 then _ else if i < 8 - n2 then 0 else ur_yL (nI (i + n2 - 8)) (w.drop (g + 2))
        by_cases b1 : i < n1
        · rw [if_pos b1, ur_fw_o _ _ _ _ (Or.inl (by omega))]
          have q := ur_fwL (t := 0) (wd := z) c1 (by rw [List.length_take]; omega) b1 (by omega) (fun j _ hj => hz j hj)
          rw [Nat.zero_add] at q
          exact q
        · rw [if_neg b1]
          by_cases b2 : i < 8 - n2
          · rw [if_pos b2, ur_fw_o _ _ _ _ (Or.inl b2), ur_fwO c1 (by omega)]
            exact hz i hi
          · rw [if_neg b2]
            have q := ur_fwL (t := 8 - n2) (i := i + n2 - 8) (wd := ur_fw 0 z (w.take g)) c2 (by rw [List.length_drop]; omega) (by omega) (by omega) (fun j a b => by rw [ur_fwO c1 (by omega)]; exact hz j b)
            rw [show 8 - n2 + (i + n2 - 8) = i by omega] at q
            exact q
/-- a good bracketed host -/
theorem ur_hk3 {T : List Int32} (hg : ur_good T) (h : ur_hkd T = 3) : ur_au T = true ∧ ur_at T (ur_h T) = 91 ∧ ur_bro T = false ∧ ur_ad (ur_ex T (ur_h T + 1) (ur_p T - 1)) = true := by
  have au : ur_au T = true := by
    cases q : ur_au T
    · have hB : ur_B T 2 = none := by rw [ur_B2, if_pos q]
      unfold ur_hkd at h
      rw [hB, if_pos (show (none : Option (Nat × Nat)).isSome = false from rfl)] at h
      exact absurd h (by decide)
    · rfl
  have hB : ur_B T 2 = some (ur_h T, ur_p T) := by rw [ur_B2, if_neg (by rw [au]; decide)]
  have hp := ur_p_hi au
  have hp2 := ur_p_lo au
  have he := ur_e_le T
  have hC : ur_C T 2 = ur_ex T (ur_h T) (ur_p T) := ur_C_s hB
  unfold ur_hkd at h
  rw [hB, if_neg (show ¬ (some (ur_h T, ur_p T)).isSome = false by simp)] at h
  have h91 : ur_at T (ur_h T) = 91 := by
    by_cases z : ur_C T 2 = []
    · rw [if_pos z] at h; exact absurd h (by decide)
    · rw [if_neg z] at h
      by_cases y : ur_at (ur_C T 2) 0 = 91
      · rw [hC] at y z
        have : ur_h T < ur_p T := by
          rcases Nat.lt_or_ge (ur_h T) (ur_p T) with w | w
          · exact w
          · exact absurd (ur_ex_nil w) z
        rw [ur_ex_at (by omega)] at y; exact y
      · rw [if_neg y] at h; exact absurd h (by decide)
  have g2 := hg.2.2.1
  unfold ur_g2 at g2
  rw [hB] at g2
  have g2 : ur_gH T = true := g2
  unfold ur_gH at g2
  rw [if_pos h91, Bool.and_eq_true, Bool.not_eq_true'] at g2
  exact ⟨au, h91, g2.1, g2.2⟩
theorem i_vc_hostKind {k : Nat} {u : SX} {v : SY} (I : i_Rel k u v) (hk : k + 4 ≤ 2050) (v1 : Int32) : wpX_hostKind (fun r u' => wpY_hostKind (fun r' => r' = r ∧ i_Rel (k + 4) u' v) v v1) u v1 := by
  refine ur_el (P := fun u v => wpX_hostKind (fun r u' => wpY_hostKind (fun r' => r' = r ∧ i_Rel (k + 4) u' v) v v1) u v1) I (fun li cn L0 bh m l fa ta wa c n s e hl h1 h2 h3 => ?_)
  have R : ∀ bh fa ta wa, i_Rel (k + 4) (ur_x bh (nI li) (nI cn) m l fa ta wa) (ur_y (nI li) (nI cn) c n s e) := fun bh fa ta wa => ur_rel hl h1 h2 h3
  obtain ⟨L, hM, hk1, hs1⟩ := h1
  obtain ⟨L', hM', hk2, hs2⟩ := h2
  obtain ⟨_, l40, _, c6⟩ := hl
  rcases ur_slot L0 cn c6 v1 with hb | ⟨x, T, hx, rfl, hT⟩
  · unfold wpX_hostKind
    exact xa_fil0 c6 hM hk1 hb (br_t rfl (ya_hkd0 c6 hM' hk2 hb ⟨rfl, R _ _ _ _⟩))
  · exact xa_hkd x c6 hM hk1 hx hT (fun bh' fa' ta' _ => ya_hkd x c6 hM' hk2 hx hT ⟨rfl, R _ _ _ _⟩)
theorem i_vc_portValue {k : Nat} {u : SX} {v : SY} (I : i_Rel k u v) (hk : k + 4 ≤ 2050) (v1 : Int32) : wpX_portValue (fun r u' => wpY_portValue (fun r' => r' = r ∧ i_Rel (k + 4) u' v) v v1) u v1 := by
  refine ur_el (P := fun u v => wpX_portValue (fun r u' => wpY_portValue (fun r' => r' = r ∧ i_Rel (k + 4) u' v) v v1) u v1) I (fun li cn L0 bh m l fa ta wa c n s e hl h1 h2 h3 => ?_)
  have R : ∀ bh fa ta wa, i_Rel (k + 4) (ur_x bh (nI li) (nI cn) m l fa ta wa) (ur_y (nI li) (nI cn) c n s e) := fun bh fa ta wa => ur_rel hl h1 h2 h3
  obtain ⟨L, hM, hk1, hs1⟩ := h1
  obtain ⟨L', hM', hk2, hs2⟩ := h2
  obtain ⟨_, l40, _, c6⟩ := hl
  rcases ur_slot L0 cn c6 v1 with hb | ⟨x, T, hx, rfl, hT⟩
  · unfold wpX_portValue wpY_portValue
    exact xa_fil0 c6 hM hk1 hb (br_t rfl (ya_start0 c6 hM' hk2 hb (ya_size0 c6 hM' hk2 hb ⟨1, br_t (by decide) (br_f ur_m1le ⟨rfl, R _ _ _ _⟩)⟩)))
  · have hL := (hk1 x (by omega)).trans hT
    have hL' := (hk2 x (by omega)).trans hT
    have hg := h3.1 x (by omega) T hT
    have h8 := ur_M_le hM (show x < 11 by omega) hL
    have v3 : vp_in (nI (x * 8) + 3) 88 := ur_iv x 3 (by omega) (by decide)
    have i3 : (nI (x * 8) + 3).toNatClampNeg = x * 8 + 3 := ur_ic x 3 (by omega) (by decide)
    unfold wpX_portValue
    refine xa_fil1 x c6 hM hk1 hx hT (br_f (by decide) (xa_split x hM (by omega) hL (fun fa' ta' hB _ => ?_)))
    refine xa_has x 3 (by omega) (by decide) hB h8 ?_
    cases hz : ur_B T 3 with
    | none =>
      refine br_t rfl ?_
      unfold wpY_portValue
      refine ya_start1 x 3 c6 hM' hk2 hx hT (by decide) (ya_size1 x 3 c6 hM' hk2 hx hT (by decide) ?_)
      unfold ur_sz
      rw [ur_E_n hz, hz, if_neg (by decide)]
      exact ⟨1, br_t (by decide) (br_f ur_m1le ⟨rfl, R _ _ _ _⟩)⟩
    | some p =>
      have q := ur_B_b (a := p.1) (b := p.2) hz
      have g3 : ur_g3 T = true := hg.2.2.2.2.1
      unfold ur_g3 at g3
      rw [hz] at g3
      have g3 : (ur_pv 0 (ur_C T 3)).isSome = true := g3
      have RX := ur_R_X hM (show x < 11 by omega) hL hB (k := 3) (by decide)
      refine br_f (show ¬ ur_b true = 0 by decide) ?_
      dsimp only
      rw [ur_m8, i3, (hB 3 (by decide)).1, (hB 3 (by decide)).2, ur_fX_s (a := p.1) (b := p.2) hz, ur_tX_s (a := p.1) (b := p.2) hz]
      rw [(hB 3 (by decide)).1, (hB 3 (by decide)).2, ur_fX_s (a := p.1) (b := p.2) hz, ur_tX_s (a := p.1) (b := p.2) hz] at RX
      refine ⟨v3, nm_e ⟨v3, nm_e (pk_lt (x * 128 + p.1) (x * 128 + p.2) (fun y => xa_pv RX ?_) (fun y => ?_))⟩⟩
      · unfold wpY_portValue
        refine ya_start1 x 3 c6 hM' hk2 hx hT (by decide) (ya_size1 x 3 c6 hM' hk2 hx hT (by decide) ?_)
        unfold ur_sz
        rw [ur_E_0 (a := p.1) (b := p.2) hz, hz, if_pos (show (some p).isSome = true from rfl)]
        cases hv : ur_pv 0 (ur_C T 3) with
        | none => rw [hv] at g3; cases g3
        | some w =>
          have hCs : ur_C T 3 = ur_ex T p.1 p.2 := ur_C_s (a := p.1) (b := p.2) hz
          have G := ur_G_ex q.1 q.2
          rw [← hCs] at G
          have lC : (ur_C T 3).length = p.2 - p.1 := by rw [hCs, ur_ex_len q.2]
          exact ⟨_, yl_pvl x p.1 (ur_C T 3).length (by omega) hM' hL' (by omega) (ur_C T 3) 0 0 w G (by omega) (by decide) hv ⟨rfl, R _ _ _ _⟩⟩
      · unfold wpY_portValue
        refine ya_start1 x 3 c6 hM' hk2 hx hT (by decide) (ya_size1 x 3 c6 hM' hk2 hx hT (by decide) ?_)
        unfold ur_sz
        rw [ur_E_0 (a := p.1) (b := p.2) hz, hz, if_pos (show (some p).isSome = true from rfl), ur_C_s (a := p.1) (b := p.2) hz, ur_ex_nil (by omega)]
        exact ⟨1, br_t (by decide) (br_t (by decide) (br_t rfl ⟨rfl, R _ _ _ _⟩))⟩
end
section
/-! the getters, III -/
theorem i_vc_group {k : Nat} {u : SX} {v : SY} (I : i_Rel k u v) (hk : k + 4 ≤ 2050) (v1 : Int32) (v2 : Int32) : wpX_group (fun r u' => wpY_group (fun r' => r' = r ∧ i_Rel (k + 4) u' v) v v1 v2) u v1 v2 := by
  refine ur_el (P := fun u v => wpX_group (fun r u' => wpY_group (fun r' => r' = r ∧ i_Rel (k + 4) u' v) v v1 v2) u v1 v2) I (fun li cn L0 bh m l fa ta wa c n s e hl h1 h2 h3 => ?_)
  have R : ∀ bh fa ta wa, i_Rel (k + 4) (ur_x bh (nI li) (nI cn) m l fa ta wa) (ur_y (nI li) (nI cn) c n s e) := fun bh fa ta wa => ur_rel hl h1 h2 h3
  obtain ⟨L, hM, hk1, hs1⟩ := h1
  obtain ⟨L', hM', hk2, hs2⟩ := h2
  obtain ⟨_, l40, _, c6⟩ := hl
  unfold wpX_group
  -- the reference answers -1 for a number out of range
  have yo : ∀ u', (v2 < 0 ∨ nI 8 ≤ v2) → i_Rel (k + 4) u' (ur_y (nI li) (nI cn) c n s e) → wpY_group (fun r' => r' = -1 ∧ i_Rel (k + 4) u' (ur_y (nI li) (nI cn) c n s e)) (ur_y (nI li) (nI cn) c n s e) v1 v2 := by
    intro u' z Ru
    have tail : ∀ x : Int32, ((x = 3 → ((v2 < 0 → ((-1 : Int32) = -1 ∧ i_Rel (k + 4) u' (ur_y (nI li) (nI cn) c n s e))) ∧ (¬ v2 < 0 → ((v2 ≤ 7 → False) ∧ (¬ v2 ≤ 7 → ((-1 : Int32) = -1 ∧ i_Rel (k + 4) u' (ur_y (nI li) (nI cn) c n s e))))))) ∧ (¬ x = 3 → ((-1 : Int32) = -1 ∧ i_Rel (k + 4) u' (ur_y (nI li) (nI cn) c n s e)))) := by
      intro x
      refine br_c (fun _ => br_c (fun _ => ⟨rfl, Ru⟩) (fun y => br_f ?_ ⟨rfl, Ru⟩)) (fun _ => ⟨rfl, Ru⟩)
      rcases z with z | z
      · exact absurd z y
      · exact Int32.not_le.mpr (Int32.lt_of_lt_of_le (show (7 : Int32) < nI 8 by decide) z)
    unfold wpY_group
    rcases ur_slot L0 cn c6 v1 with hb | ⟨x, T, hx, rfl, hT⟩
    · exact ya_hkd0 c6 hM' hk2 hb (br_f (by decide) ⟨rfl, Ru⟩)
    · refine ya_hkd x c6 hM' hk2 hx hT ?_
      refine br_c (fun _ => br_c (fun _ => ⟨rfl, Ru⟩) (fun y => br_f ?_ ⟨rfl, Ru⟩)) (fun _ => ⟨rfl, Ru⟩)
      rcases z with z | z
      · exact absurd z y
      · exact Int32.not_le.mpr (Int32.lt_of_lt_of_le (show (7 : Int32) < nI 8 by decide) z)
  rcases pk_ix v2 (show 8 < 2 ^ 31 by decide) with z | z | ⟨i, hi, rfl⟩
  · exact br_t z (yo _ (Or.inl z) (R _ _ _ _))
  · exact br_c (fun _ => yo _ (Or.inr z) (R _ _ _ _)) (fun _ => br_f (Int32.not_le.mpr (Int32.lt_of_lt_of_le (show (7 : Int32) < nI 8 by decide) z)) (yo _ (Or.inr z) (R _ _ _ _)))
  · refine br_f (nI_pos (by omega)) (br_t (nI_le (b := 7) (by omega) (by decide)) ?_)
    rcases ur_slot L0 cn c6 v1 with hb | ⟨x, T, hx, rfl, hT⟩
    · unfold wpX_hostKind
      refine xa_fil0 c6 hM hk1 hb (br_t rfl (br_f (by decide) ?_))
      unfold wpY_group
      exact ya_hkd0 c6 hM' hk2 hb (br_f (by decide) ⟨rfl, R _ _ _ _⟩)
    · have hL := (hk1 x (by omega)).trans hT
      have hL' := (hk2 x (by omega)).trans hT
      have hg := h3.1 x (by omega) T hT
      have h8 := ur_M_le hM (show x < 11 by omega) hL
      have v2' : vp_in (nI (x * 8) + 2) 88 := ur_iv x 2 (by omega) (by decide)
      have i2 : (nI (x * 8) + 2).toNatClampNeg = x * 8 + 2 := ur_ic x 2 (by omega) (by decide)
      refine xa_hkd x c6 hM hk1 hx hT (fun bh' fa' ta' hB => ?_)
      refine br_c (fun y => ?_) (fun y => ?_)
      · obtain ⟨au, h91, nb, had⟩ := ur_hk3 hg.2 y
        obtain ⟨q0, q1, q2, q3⟩ := ur_close au h91 nb
        have e1 := ur_e_le T
        have e2 := ur_p_hi au
        have e5 := ur_h_lo au
        have hB2 : ur_B T 2 = some (ur_h T, ur_p T) := by rw [ur_B2, if_neg (by rw [au]; decide)]
        have GT := ur_G_ex q2 (show ur_p T - 1 ≤ T.length by omega)
        have G := ur_M_G hM (show x < 11 by omega) hL GT
        have el : (ur_ex T (ur_h T + 1) (ur_p T - 1)).length = ur_p T - 1 - (ur_h T + 1) := ur_ex_len (by omega)
        rw [ur_m8, i2, (hB 2 (by decide)).1, (hB 2 (by decide)).2, ur_fX_s hB2, ur_tX_s hB2, nI_1, ur_s1 (show 0 < x * 128 + ur_p T by omega)]
        refine ⟨v2', nm_e ⟨v2', nm_e ?_⟩⟩
        refine xa_ra (w := ur_ex T (ur_h T + 1) (ur_p T - 1)) (a := x * 128 + ur_h T + 1) (b := x * 128 + ur_p T - 1) (by rw [Nat.add_assoc]; exact G) (by rw [el]; omega) (fun wa' hw => ?_)
        rw [had]
        obtain ⟨z, hz, ez⟩ := hw had
        refine br_f (show ¬ ur_b true = 0 by decide) ⟨vp_in_nI hi (by decide), ?_⟩
        rw [nI_clamp (show i < 2 ^ 31 by omega), ez, ur_wd_v had (by omega) hz hi]
        unfold wpY_group
        refine ya_hkd x c6 hM' hk2 hx hT (br_t y (br_f (nI_pos (by omega)) (br_t (nI_le (b := 7) (by omega) (by decide)) ?_)))
        refine ya_begin x 2 hM' (by omega) hL' (by decide) ?_
        rw [ur_E_0 hB2]
        refine nm_r (nI_1 _) (ya_end x 2 hM' (by omega) hL' (by decide) ?_)
        rw [ur_E_1 hB2]
        refine nm_r (ur_s1 (by omega)) ?_
        refine ya_gap x (ur_h T + 1) (ur_p T - 1) hM' (by omega) hL' GT (by rw [el]; omega) ?_
        unfold ur_gv
        unfold ur_ad at had
        generalize hw2 : ur_ex T (ur_h T + 1) (ur_p T - 1) = w at *
        cases hgp : ur_gp w with
        | none =>
          rw [hgp] at had
          have hc : ur_cN w = some 8 := of_decide_eq_true had
          show wpY_list _ _ _ _ (nI (ur_p T - 1)) _
          refine ya_list x (ur_h T + 1) (ur_p T - 1) hM' (by omega) hL' GT (by rw [el]; omega) ?_
          rw [ur_yL_c w (by omega), hc]
          refine ya_list0 ?_ ?_
          · show ¬ nI (ur_p T - 1) + 2 < nI (ur_p T - 1)
            rw [ur_p2]; exact nI_nlt (by omega) (by omega)
          · refine br_f (nI_ge (b := 8) hi (by decide)) ?_
            exact ya_list x (ur_h T + 1) (ur_p T - 1) hM' (by omega) hL' GT (by rw [el]; omega) ⟨rfl, R _ _ _ _⟩
        | some g =>
          rw [hgp] at had
          dsimp only at had
          have hg2 := ur_gp_lt w g hgp
          have G1 := ur_G_take GT g
          have G2 := ur_G_drop GT (k := g + 2) (by omega)
          have l1 : ur_h T + 1 + (w.take g).length = ur_h T + 1 + g := by rw [List.length_take]; omega
          have l2 : ur_h T + 1 + (g + 2) + (w.drop (g + 2)).length = ur_p T - 1 := by rw [List.length_drop]; omega
          cases c1 : ur_cN (w.take g) with
          | none => rw [c1] at had; cases had
          | some n1 =>
            cases c2 : ur_cN (w.drop (g + 2)) with
            | none => rw [c1, c2] at had; cases had
            | some n2 =>
              rw [c1, c2] at had
              have h7 : n1 + n2 ≤ 7 := of_decide_eq_true had
              rw [show ur_gpY (ur_h T + 1) (ur_p T - 1) (some g) = ur_h T + 1 + g from rfl]
              refine ya_list x (ur_h T + 1) (ur_h T + 1 + g) hM' (by omega) hL' G1 l1 ?_
              rw [ur_yL_c _ (by rw [List.length_take]; omega), c1]
              rw [ur_p2 (ur_h T + 1 + g)]
              refine ya_list x (ur_h T + 1 + g + 2) (ur_p T - 1) hM' (by omega) hL' (by rw [Nat.add_assoc]; exact G2) (by omega) ?_
              rw [ur_yL_c _ (by rw [List.length_drop]; omega), c2]
              have e9 : (8 : Int32) - ur_oI (some n2) = nI (8 - n2) := pk_sub (a := 8) (by omega)
              rw [e9]
              show ((nI n1 ≤ nI i → _) ∧ (¬ nI n1 ≤ nI i → _))
              refine pk_le n1 i (fun a => pk_le (8 - n2) i (fun b => ?_) (fun b => ?_)) (fun a => ?_)
              · have e10 : nI i - 8 + ur_oI (some n2) = nI (i + n2 - 8) := by
                  show nI i - 8 + nI n2 = _
                  have : nI i - 8 + nI n2 = nI i + nI n2 - 8 := by
                    rw [Int32.sub_eq_add_neg, Int32.add_assoc, Int32.add_comm (-8), ← Int32.add_assoc, ← Int32.sub_eq_add_neg]
                  rw [this, nI_add]
                  exact pk_sub (b := 8) (by omega)
                rw [e10]
                refine ya_list x (ur_h T + 1 + g + 2) (ur_p T - 1) hM' (by omega) hL' (by rw [Nat.add_assoc]; exact G2) (by omega) ⟨?_, R _ _ _ _⟩
                dsimp only
                rw [c1, c2, Option.getD_some, Option.getD_some, if_neg (by omega), if_neg (by omega)]
              · refine ⟨?_, R _ _ _ _⟩
                dsimp only
                rw [c1, c2, Option.getD_some, Option.getD_some, if_neg (by omega), if_pos b]
              · refine ya_list x (ur_h T + 1) (ur_h T + 1 + g) hM' (by omega) hL' G1 l1 ⟨?_, R _ _ _ _⟩
                dsimp only
                rw [c1, Option.getD_some, if_pos a]
      · unfold wpY_group
        exact ya_hkd x c6 hM' hk2 hx hT (br_f y ⟨rfl, R _ _ _ _⟩)
def ur_sc2 (A B : List Int32) (k : Nat) : Bool := match ur_B A k, ur_B B k with
  | none, none => true
  | some _, some _ => decide (ur_C A k = ur_C B k)
  | _, _ => false
theorem i_vc_sameComponent {k : Nat} {u : SX} {v : SY} (I : i_Rel k u v) (hk : k + 4 ≤ 2050) (v1 : Int32) (v2 : Int32) (v3 : Int32) : wpX_sameComponent (fun r u' => wpY_sameComponent (fun r' => r' = r ∧ i_Rel (k + 4) u' v) v v1 v2 v3) u v1 v2 v3 := by
  refine ur_el (P := fun u v => wpX_sameComponent (fun r u' => wpY_sameComponent (fun r' => r' = r ∧ i_Rel (k + 4) u' v) v v1 v2 v3) u v1 v2 v3) I (fun li cn L0 bh m l fa ta wa c n s e hl h1 h2 h3 => ?_)
  have R : ∀ bh fa ta wa, i_Rel (k + 4) (ur_x bh (nI li) (nI cn) m l fa ta wa) (ur_y (nI li) (nI cn) c n s e) := fun bh fa ta wa => ur_rel hl h1 h2 h3
  obtain ⟨L, hM, hk1, hs1⟩ := h1
  obtain ⟨L', hM', hk2, hs2⟩ := h2
  obtain ⟨_, l40, _, c6⟩ := hl
  -- the reference answers 0 where a slot is bad or the kind is none
  have y0 : (ur_bad L0 cn v1 ∨ ur_bad L0 cn v2 ∨ v3 < 0 ∨ nI 8 ≤ v3) → ∀ u', i_Rel (k + 4) u' (ur_y (nI li) (nI cn) c n s e) → wpY_sameComponent (fun r' => r' = 0 ∧ i_Rel (k + 4) u' (ur_y (nI li) (nI cn) c n s e)) (ur_y (nI li) (nI cn) c n s e) v1 v2 v3 := by
    intro hbad u' Ru
    unfold wpY_sameComponent
    refine br_c (fun _ => ⟨rfl, Ru⟩) (fun z0 => br_c (fun _ => ⟨rfl, Ru⟩) (fun z7 => ?_))
    refine ya_check c6 hM' (fun _ => br_f (by decide) ⟨rfl, Ru⟩) (fun a b d ha hb hd ea eb ed => ?_)
    have : (L' a).isNone = true ∨ (L' b).isNone = true := by
      rcases hbad with q | q | q | q
      · rcases q with q | ⟨s', hs', e', hn⟩
        · rw [ea] at q; exact absurd q (ur_rg_no c6 ha)
        · have : a = s' := (nI_eq (by omega) (by omega)).mp (ea.symm.trans e')
          subst this
          exact Or.inl (by rw [hk2 a (by omega), hn]; rfl)
      · rcases q with q | ⟨s', hs', e', hn⟩
        · rw [eb] at q; exact absurd q (ur_rg_no c6 hb)
        · have : b = s' := (nI_eq (by omega) (by omega)).mp (eb.symm.trans e')
          subst this
          exact Or.inr (by rw [hk2 b (by omega), hn]; rfl)
      · exact absurd q z0
      · exact absurd (Int32.lt_of_lt_of_le (show (7 : Int32) < nI 8 by decide) q) z7
    rw [if_pos this]
    exact br_f (by decide) ⟨rfl, Ru⟩
  unfold wpX_sameComponent
  rcases ur_slot L0 cn c6 v1 with hb | ⟨x, A, hx, rfl, hA⟩
  · exact xa_fil0 c6 hM hk1 hb (br_t rfl (y0 (Or.inl hb) _ (R _ _ _ _)))
  refine xa_fil1 x c6 hM hk1 hx hA (br_f (by decide) ?_)
  rcases ur_slot L0 cn c6 v2 with hb | ⟨y, B, hy, rfl, hB⟩
  · exact xa_fil0 c6 hM hk1 hb (br_t rfl (y0 (Or.inr (Or.inl hb)) _ (R _ _ _ _)))
  refine xa_fil1 y c6 hM hk1 hy hB (br_f (by decide) (xa_kind (fun z => br_t rfl (y0 (Or.inr (Or.inr z)) _ (R _ _ _ _))) (fun kd hkd ek => br_f (by decide) ?_)))
  subst ek
  have hLA := (hk1 x (by omega)).trans hA
  have hLB := (hk1 y (by omega)).trans hB
  have hLA' := (hk2 x (by omega)).trans hA
  have hLB' := (hk2 y (by omega)).trans hB
  have g1 := h3.1 x (by omega) A hA
  have g2 := h3.1 y (by omega) B hB
  refine xa_split x hM (by omega) hLA (fun fa1 ta1 bA1 _ => ?_)
  refine xa_split y hM (by omega) hLB (fun fa2 ta2 bB keep => ?_)
  have bA : ur_BX x A fa2 ta2 := by
    by_cases exy : x = y
    · subst exy
      have : A = B := by rw [hA] at hB; exact Option.some.inj hB
      subst this; exact bB
    · exact keep x A exy bA1
  -- the reference's side for an answer
  have yr : ∀ (an : Bool) u', an = ur_sc2 A B kd → i_Rel (k + 4) u' (ur_y (nI li) (nI cn) c n s e) → wpY_sameComponent (fun r' => r' = ur_b an ∧ i_Rel (k + 4) u' (ur_y (nI li) (nI cn) c n s e)) (ur_y (nI li) (nI cn) c n s e) (nI x) (nI y) (nI kd) := by
    intro an u' ean Ru
    unfold wpY_sameComponent
    refine br_f (nI_pos (by omega)) (br_f (nI_nlt (a := 7) (by omega) (by decide)) ?_)
    refine ya_check c6 hM' (fun o => ?_) (fun a b d ha hb hd ea eb ed => ?_)
    · rcases o with o | o | o
      · exact absurd o (ur_rg_no c6 hx)
      · exact absurd o (ur_rg_no c6 hy)
      · exact absurd o (ur_rg_no c6 hx)
    have e1 : x = a := (nI_eq (by omega) (by omega)).mp ea
    have e2 : y = b := (nI_eq (by omega) (by omega)).mp eb
    subst e1
    subst e2
    rw [if_neg (by rw [hLA', hLB']; intro q; rcases q with q | q <;> cases q)]
    refine br_t rfl (ya_begin x kd hM' (by omega) hLA' hkd (ya_end x kd hM' (by omega) hLA' hkd (ya_begin y kd hM' (by omega) hLB' hkd (ya_end y kd hM' (by omega) hLB' hkd ?_))))
    unfold ur_sc2 at ean
    unfold wY_sameComponent_64
    cases hBA : ur_B A kd with
    | none =>
      rw [ur_E_n hBA]
      refine br_t ur_m1lt ?_
      cases hBB : ur_B B kd with
      | none =>
        rw [hBA, hBB] at ean
        rw [ur_E_n hBB]
        exact br_t rfl ⟨by rw [ean]; rfl, Ru⟩
      | some q =>
        have qb := ur_B_b (a := q.1) (b := q.2) hBB
        rw [hBA, hBB] at ean
        rw [ur_E_0 (a := q.1) (b := q.2) hBB]
        exact br_f (fun w => ur_m1g (by omega) w.symm) ⟨by rw [ean]; rfl, Ru⟩
    | some p =>
      have pb := ur_B_b (a := p.1) (b := p.2) hBA
      rw [ur_E_0 (a := p.1) (b := p.2) hBA, ur_E_1 (a := p.1) (b := p.2) hBA]
      refine br_f (nI_pos (by omega)) ?_
      cases hBB : ur_B B kd with
      | none =>
        rw [hBA, hBB] at ean
        rw [ur_E_n hBB]
        exact br_f ur_m1le (br_f (ur_m1g (by omega)) ⟨by rw [ean]; rfl, Ru⟩)
      | some q =>
        have qb := ur_B_b (a := q.1) (b := q.2) hBB
        rw [hBA, hBB] at ean
        rw [ur_E_0 (a := q.1) (b := q.2) hBB, ur_E_1 (a := q.1) (b := q.2) hBB]
        refine br_t (nI_pos' (by omega)) ?_
        refine ya_same x y p.1 q.1 (ur_C A kd) (ur_C B kd) hM' (by omega) (by omega) hLA' hLB' (by rw [ur_C_s (a := p.1) (b := p.2) hBA]; exact ur_G_ex pb.1 pb.2) (by rw [ur_C_s (a := q.1) (b := q.2) hBB]; exact ur_G_ex qb.1 qb.2) rfl ?_ rfl ?_ ⟨ur_b_n _, by rw [ean], Ru⟩
        · rw [ur_C_s (a := p.1) (b := p.2) hBA, ur_ex_len pb.2]; exact congrArg nI (by omega)
        · rw [ur_C_s (a := q.1) (b := q.2) hBB, ur_ex_len qb.2]; exact congrArg nI (by omega)
  have vA : vp_in (nI (x * 8) + nI kd) 88 := ur_iv x kd (by omega) hkd
  have vB : vp_in (nI (y * 8) + nI kd) 88 := ur_iv y kd (by omega) hkd
  refine nm_r (e' := nI (x * 8) + nI kd) (by rw [ur_m8]) (nm_r (e' := nI (y * 8) + nI kd) (by rw [ur_m8]) ?_)
  rw [ur_ic x kd (by omega) hkd, ur_ic y kd (by omega) hkd, (bA kd hkd).1, (bA kd hkd).2, (bB kd hkd).1, (bB kd hkd).2]
  refine ⟨vA, ?_⟩
  have h72 : ∀ an : Bool, an = ur_sc2 A B kd → ((ur_B A kd).isSome = false ∨ (ur_B B kd).isSome = false) → wX_sameComponent_72 (fun r u' => wpY_sameComponent (fun r' => r' = r ∧ i_Rel (k + 4) u' (ur_y (nI li) (nI cn) c n s e)) (ur_y (nI li) (nI cn) c n s e) (nI x) (nI y) (nI kd)) (nI (x * 8) + nI kd) (nI (y * 8) + nI kd) 128 6 7 8 9 10 (ur_b (ur_bro B)) (nI li) (nI cn) m l fa2 ta2 wa := by
    intro an ean hn
    have yr' := yr an _ ean (R (ur_b (ur_bro B)) fa2 ta2 wa)
    unfold wX_sameComponent_72
    rw [ur_ic x kd (by omega) hkd, ur_ic y kd (by omega) hkd, (bA kd hkd).1, (bB kd hkd).1]
    refine ⟨vA, ?_⟩
    unfold ur_sc2 at ean
    cases hBA : ur_B A kd with
    | none =>
      rw [ur_fX_n hBA]
      refine br_f ur_m1le ⟨vB, ?_⟩
      cases hBB : ur_B B kd with
      | none =>
        rw [hBA, hBB] at ean
        rw [ean] at yr'
        rw [ur_fX_n hBB]
        exact br_f ur_m1le yr'
      | some q =>
        have qb := ur_B_b (a := q.1) (b := q.2) hBB
        rw [hBA, hBB] at ean
        rw [ean] at yr'
        rw [ur_fX_s (a := q.1) (b := q.2) hBB]
        exact br_t (nI_pos' (by omega)) yr'
    | some p =>
      have pb := ur_B_b (a := p.1) (b := p.2) hBA
      cases hBB : ur_B B kd with
      | none =>
        rw [hBA, hBB] at ean
        rw [ean] at yr'
        rw [ur_fX_s (a := p.1) (b := p.2) hBA]
        exact br_t (nI_pos' (by omega)) yr'
      | some q => rw [hBA, hBB] at hn; rcases hn with hn | hn <;> cases hn
  cases hBA : ur_B A kd with
  | none =>
    rw [ur_fX_n hBA]
    exact br_t ur_m1lt (h72 _ rfl (Or.inl (by rw [hBA]; rfl)))
  | some p =>
    have pb := ur_B_b (a := p.1) (b := p.2) hBA
    rw [ur_fX_s (a := p.1) (b := p.2) hBA, ur_tX_s (a := p.1) (b := p.2) hBA]
    refine br_f (nI_pos (by omega)) ⟨vB, ?_⟩
    cases hBB : ur_B B kd with
    | none =>
      rw [ur_fX_n hBB]
      exact br_f ur_m1le (h72 _ rfl (Or.inr (by rw [hBB]; rfl)))
    | some q =>
      have qb := ur_B_b (a := q.1) (b := q.2) hBB
      rw [ur_fX_s (a := q.1) (b := q.2) hBB, ur_tX_s (a := q.1) (b := q.2) hBB]
      refine br_t (nI_pos' (by omega)) ⟨vA, vA, vB, vB, ?_⟩
      have GA := ur_M_G hM (show x < 11 by omega) hLA (ur_G_ex pb.1 pb.2)
      have GB := ur_M_G hM (show y < 11 by omega) hLB (ur_G_ex qb.1 qb.2)
      rw [← ur_C_s (a := p.1) (b := p.2) hBA] at GA
      rw [← ur_C_s (a := q.1) (b := q.2) hBB] at GB
      refine xa_same (x * 128 + p.1) (y * 128 + q.1) _ _ GA GB rfl ?_ rfl ?_ ⟨ur_b_n _, ?_⟩
      · rw [ur_C_s (a := p.1) (b := p.2) hBA, ur_ex_len pb.2]; exact congrArg nI (by omega)
      · rw [ur_C_s (a := q.1) (b := q.2) hBB, ur_ex_len qb.2]; exact congrArg nI (by omega)
      · exact yr _ _ (by unfold ur_sc2; rw [hBA, hBB]) (R _ _ _ _)
theorem i_vc_traits {k : Nat} {u : SX} {v : SY} (I : i_Rel k u v) (hk : k + 4 ≤ 2050) (v1 : Int32) : wpX_traits (fun r u' => wpY_traits (fun r' v' => r' = r ∧ i_Rel (k + 4) u' v') v v1) u v1 := by
  refine ur_el (P := fun u v => wpX_traits (fun r u' => wpY_traits (fun r' v' => r' = r ∧ i_Rel (k + 4) u' v') v v1) u v1) I (fun li cn L0 bh m l fa ta wa c n s e hl h1 h2 h3 => ?_)
  have R : i_Rel (k + 4) (ur_x bh (nI li) (nI cn) m l fa ta wa) (ur_y (nI li) (nI cn) c n s e) := ur_rel hl h1 h2 h3
  obtain ⟨L, hM, hk1, hs1⟩ := h1
  obtain ⟨L', hM', hk2, hs2⟩ := h2
  have hl' := hl
  obtain ⟨_, l40, _, c6⟩ := hl
  unfold wpX_traits
  rcases ur_slot L0 cn c6 v1 with hb | ⟨x, T, hx, rfl, hT⟩
  · refine xa_fil0 c6 hM hk1 hb (br_t rfl ?_)
    unfold wpY_traits
    exact ya_chk0 c6 hM' hk2 hb (fun _ hx => br_f hx ⟨rfl, R⟩)
  · have hL := (hk1 x (by omega)).trans hT
    have hL' := (hk2 x (by omega)).trans hT
    have hg := h3.1 x (by omega) T hT
    have h8 := ur_M_le hM (show x < 11 by omega) hL
    obtain ⟨a7, ha7⟩ := hs1 7 (by decide) (by decide)
    obtain ⟨a8, ha8⟩ := hs1 8 (by decide) (by decide)
    obtain ⟨b7, hb7⟩ := hs2 7 (by decide) (by decide)
    obtain ⟨b8, hb8⟩ := hs2 8 (by decide) (by decide)
    refine xa_fil1 x c6 hM hk1 hx hT (br_f (by decide) (xa_split x hM (by omega) hL (fun fa' ta' hB _ => ?_)))
    have fin : ∀ y, y = ur_b (ur_B T 0).isSome → wX_traits_29 (fun r u' => wpY_traits (fun r' v' => r' = r ∧ i_Rel (k + 4) u' v') (ur_y (nI li) (nI cn) c n s e) (nI x)) (nI x) y 128 6 7 8 9 10 (ur_b (ur_bro T)) (nI li) (nI cn) m l fa' ta' wa := by
      intro y hy
      refine xa_tr x (by omega) hL (by omega) hB (ur_W_i hM ha7 ha8) (fun m' l' t7 t8 g1 => ?_) hy
      unfold wpY_traits
      refine ya_chk1 x c6 hM' hk2 hx hT (br_t rfl ?_)
      refine ys_tr x (by omega) hL' (by omega) (ur_ev_good hg.2) (ur_W_i hM' hb7 hb8) (fun c' n' s' e' t7 t8 g2 => ⟨rfl, ?_⟩)
      exact ur_rel hl' (ur_W_St g1 hk1 hs1) (ur_W_St g2 hk2 hs2) h3
    refine xa_has x 0 (by omega) (by decide) hB h8 (ur_br (fun z => fin _ (by rw [z]; rfl)) (fun z => nm_r (e' := 1) (by decide) (fin _ (by rw [z]; rfl))))
end
section
/-! slot to slot -/
theorem ur_tr2 : ∀ a b c d : Bool, ur_tr a b c d &&& 2 = 0 ↔ b = false := by decide +kernel
theorem ur_tr1 : ∀ a b c d : Bool, ur_tr a b c d &&& 1 = 0 ↔ a = false := by decide +kernel
theorem ur_tr4 : ∀ a b c d a' b' c' d' : Bool, ((ur_tr a b c d &&& ur_tr a' b' c' d') &&& 4 = 0) ↔ (c && c') = false := by decide +kernel
theorem ur_brp {p : Prop} {b : Bool} {A B : Prop} (h : p ↔ b = false) (f : b = false → A) (g : b = true → B) : (p → A) ∧ (¬ p → B) := by
  cases b
  · exact br_t (h.mpr rfl) (f rfl)
  · exact br_f (fun z => by cases h.mp z) (g rfl)
theorem ur_W_V {W : Nat} {L0 L : Nat → Option (List Int32)} {m l : Nat → Int32} {t7 t8 t9 t10 : List Int32} (h : ur_W W L m l t7 t8) (h9 : L 9 = some t9) (h10 : L 10 = some t10) (hk : ∀ j, j < 7 → L j = L0 j) : ur_V W L0 m l t9 t10 := by
  obtain ⟨L2, hM, h7, h8, hk2⟩ := h
  exact ⟨L2, hM, (hk2 9 (by decide) (by decide)).trans h9, (hk2 10 (by decide) (by decide)).trans h10, ⟨_, h7⟩, ⟨_, h8⟩, fun j hj => (hk2 j (by omega) (by omega)).trans (hk j hj)⟩
section
variable {lim : Int32} {yc yn ys ye : Nat → Int32} {L0 L : Nat → Option (List Int32)} {T : List Int32} {cn : Nat}
theorem ya_tr1 {post : Int32 → SY → Prop} (s : Nat) (hc : cn ≤ 6) (h : ur_St 256 L0 yc yn) (hs : s < cn) (hT : L0 s = some T) (h40 : T.length ≤ 40) (hg : ur_good T)
    (k : ∀ c' n' s' e', ur_St 256 L0 c' n' → post (ur_tT T) (ur_y lim (nI cn) c' n' s' e')) : wpY_traits post (ur_y lim (nI cn) yc yn ys ye) (nI s) := by
  obtain ⟨L', hM', hk2, hs2⟩ := h
  obtain ⟨b7, hb7⟩ := hs2 7 (by decide) (by decide)
  obtain ⟨b8, hb8⟩ := hs2 8 (by decide) (by decide)
  unfold wpY_traits
  refine ya_chk1 s hc hM' hk2 hs hT (br_t rfl ?_)
  exact ys_tr s (by omega) ((hk2 s (by omega)).trans hT) (by omega) (ur_ev_good hg) (ur_W_i hM' hb7 hb8) (fun c' n' s' e' t7 t8 g2 => k c' n' s' e' (ur_W_St g2 hk2 hs2))
theorem ya_chkS {post : Int32 → Prop} {a b c : Int32} (hc : cn ≤ 6) (h : ur_M 256 L yc yn) (hk : ∀ j, j < 7 → L j = L0 j) (f : ur_rg cn a ∨ ur_rg cn b ∨ ur_rg cn c → post 2)
    (g : ∀ s t d, s < cn → t < cn → d < cn → a = nI s → b = nI t → c = nI d → post (if (L0 s).isNone = true ∨ (L0 t).isNone = true then 3 else 0)) : wpY_check post (ur_y lim (nI cn) yc yn ys ye) a b c := by
  refine ya_check hc h f (fun s t d hs ht hd ea eb ed => ?_)
  have := g s t d hs ht hd ea eb ed
  rw [← hk s (by omega), ← hk t (by omega)] at this
  exact this
end
theorem i_vc_normalise {k : Nat} {u : SX} {v : SY} (I : i_Rel k u v) (hk : k + 4 ≤ 2050) (v1 : Int32) (v2 : Int32) : wpX_normalise (fun r u' => wpY_normalise (fun r' v' => r' = r ∧ i_Rel (k + 4) u' v') v v1 v2) u v1 v2 := by
  refine ur_el (P := fun u v => wpX_normalise (fun r u' => wpY_normalise (fun r' v' => r' = r ∧ i_Rel (k + 4) u' v') v v1 v2) u v1 v2) I (fun li cn L0 bh m l fa ta wa c n s e hl h1 h2 h3 => ?_)
  have R : i_Rel (k + 4) (ur_x bh (nI li) (nI cn) m l fa ta wa) (ur_y (nI li) (nI cn) c n s e) := ur_rel hl h1 h2 h3
  obtain ⟨L, hM, hk1, hs1⟩ := h1
  obtain ⟨L', hM', hk2, hs2⟩ := h2
  have hl' := hl
  obtain ⟨_, l40, _, c6⟩ := hl
  have bad : (ur_rg cn v1 ∨ ur_rg cn v2) → wpY_normalise (fun r' v' => r' = 2 ∧ i_Rel (k + 4) (ur_x bh (nI li) (nI cn) m l fa ta wa) v') (ur_y (nI li) (nI cn) c n s e) v1 v2 := by
    intro o
    unfold wpY_normalise
    refine ya_chkS c6 hM' hk2 (fun _ => br_f (by decide) ⟨rfl, R⟩) (fun a b d ha hb hd ea eb ed => ?_)
    rcases o with o | o
    · rw [ea] at o; exact absurd o (ur_rg_no c6 ha)
    · rw [ed] at o; exact absurd o (ur_rg_no c6 hd)
  unfold wpX_normalise
  refine xa_inR c6 (fun o => br_t rfl (bad (Or.inl o))) (fun x hx ex => br_f (by decide) ?_)
  refine xa_inR c6 (fun o => br_t rfl (bad (Or.inr o))) (fun y hy ey => br_f (by decide) ?_)
  subst ex ey
  rw [nI_clamp (show x < 2 ^ 31 by omega)]
  refine ⟨vp_in_nI (by omega) (by decide), ?_⟩
  have eL : L x = L0 x := hk1 x (by omega)
  have eL' : L' x = L0 x := hk2 x (by omega)
  -- the reference's check
  have chk : ∀ (post : Int32 → Prop), post (if (L0 x).isNone = true then 3 else 0) → wpY_check post (ur_y (nI li) (nI cn) c n s e) (nI x) (nI x) (nI y) := by
    intro post p
    refine ya_chkS c6 hM' hk2 (fun o => ?_) (fun a b d ha hb hd ea eb ed => ?_)
    · rcases o with o | o | o
      · exact absurd o (ur_rg_no c6 hx)
      · exact absurd o (ur_rg_no c6 hx)
      · exact absurd o (ur_rg_no c6 hy)
    · have e1 : x = a := (nI_eq (by omega) (by omega)).mp ea
      have e2 : x = b := (nI_eq (by omega) (by omega)).mp eb
      subst e1
      subst e2
      by_cases q : (L0 x).isNone = true
      · rw [if_pos q] at p; rw [if_pos (Or.inl q)]; exact p
      · rw [if_neg q] at p; rw [if_neg (fun w => w.elim q q)]; exact p
  cases hx0 : L0 x with
  | none =>
    rw [(hM x (by omega)).1 (eL.trans hx0)]
    refine br_f ur_m1le ?_
    unfold wpY_normalise
    refine chk _ ?_
    rw [hx0, if_pos (show (none : Option (List Int32)).isNone = true from rfl)]
    exact br_f (by decide) ⟨rfl, R⟩
  | some T =>
    have hg := h3.1 x (by omega) T hx0
    obtain ⟨a7, ha7⟩ := hs1 7 (by decide) (by decide)
    obtain ⟨a8, ha8⟩ := hs1 8 (by decide) (by decide)
    obtain ⟨b7, hb7⟩ := hs2 7 (by decide) (by decide)
    obtain ⟨b8, hb8⟩ := hs2 8 (by decide) (by decide)
    rw [ur_M_len hM (by omega) (eL.trans hx0)]
    refine br_t (nI_pos' (by omega)) (xa_split x hM (by omega) (eL.trans hx0) (fun fa' ta' hB _ => ?_))
    refine xa_bn x (by omega) (eL.trans hx0) (by omega) hB (ur_W_i hM ha7 ha8) (fun m1 l1 t g1 => ?_)
    obtain ⟨A, hA, A7, A8, kA⟩ := g1
    refine xa_copy 7 y hA (by decide) (by omega) (by omega) A7 (fun m2 l2 g2 => ?_)
    unfold wpY_normalise
    refine chk _ ?_
    rw [hx0, if_neg (show ¬ (some T).isNone = true by simp)]
    refine br_t rfl (ya_normal x (by omega) (eL'.trans hx0) (by omega) (ur_ev_good hg.2) (ur_W_i hM' hb7 hb8) (fun c1 n1 s1 e1 t g3 => ?_))
    obtain ⟨B, hB', B7, B8, kB⟩ := g3
    refine ya_copy 7 y hB' (by decide) (by omega) (by omega) B7 (fun c2 n2 g4 => ⟨rfl, ?_⟩)
    obtain ⟨A', hA', kA', sA'⟩ := ur_W_St ⟨A, hA, A7, A8, kA⟩ hk1 hs1
    refine ur_rel hl' (ur_St_put (by omega) g2 (fun j hj => (kA j (by omega) (by omega)).trans (hk1 j hj)) (fun j a b => ?_)) (ur_St_put (by omega) g4 (fun j hj => (kB j (by omega) (by omega)).trans (hk2 j hj)) (fun j a b => ?_)) (ur_Iv_put h3 (by omega) (Nat.le_trans (ur_nm_len hg.2) hg.1) (ur_nm_good hg.2))
    · by_cases e7 : j = 7
      · subst e7; exact ⟨_, A7⟩
      by_cases e8 : j = 8
      · subst e8; exact ⟨_, A8⟩
      rw [kA j e7 e8]; exact hs1 j a b
    · by_cases e7 : j = 7
      · subst e7; exact ⟨_, B7⟩
      by_cases e8 : j = 8
      · subst e8; exact ⟨_, B8⟩
      rw [kB j e7 e8]; exact hs2 j a b
theorem ur_scr {L A : Nat → Option (List Int32)} {t7 t8 : List Int32} (A7 : A 7 = some t7) (A8 : A 8 = some t8) (kA : ∀ j, j ≠ 7 → j ≠ 8 → A j = L j) (hs : ∀ j, 7 ≤ j → j < 11 → ∃ t, L j = some t) : ∀ j, 7 ≤ j → j < 11 → ∃ t, A j = some t := by
  intro j a b
  by_cases e7 : j = 7
  · subst e7; exact ⟨_, A7⟩
  by_cases e8 : j = 8
  · subst e8; exact ⟨_, A8⟩
  rw [kA j e7 e8]; exact hs j a b
theorem i_vc_resolve {k : Nat} {u : SX} {v : SY} (I : i_Rel k u v) (hk : k + 4 ≤ 2050) (v1 : Int32) (v2 : Int32) (v3 : Int32) : wpX_resolve (fun r u' => wpY_resolve (fun r' v' => r' = r ∧ i_Rel (k + 4) u' v') v v1 v2 v3) u v1 v2 v3 := by
  refine ur_el (P := fun u v => wpX_resolve (fun r u' => wpY_resolve (fun r' v' => r' = r ∧ i_Rel (k + 4) u' v') v v1 v2 v3) u v1 v2 v3) I (fun li cn L0 bh m l fa ta wa c n s e hl h1 h2 h3 => ?_)
  have hSX := h1
  have hSY := h2
  have R : i_Rel (k + 4) (ur_x bh (nI li) (nI cn) m l fa ta wa) (ur_y (nI li) (nI cn) c n s e) := ur_rel hl h1 h2 h3
  obtain ⟨L, hM, hk1, hs1⟩ := h1
  obtain ⟨L', hM', hk2, hs2⟩ := h2
  have hl' := hl
  obtain ⟨_, l40, _, c6⟩ := hl
  have bad : (ur_rg cn v1 ∨ ur_rg cn v2 ∨ ur_rg cn v3) → wpY_resolve (fun r' v' => r' = 2 ∧ i_Rel (k + 4) (ur_x bh (nI li) (nI cn) m l fa ta wa) v') (ur_y (nI li) (nI cn) c n s e) v1 v2 v3 := by
    intro o
    unfold wpY_resolve
    refine ya_chkS c6 hM' hk2 (fun _ => br_f (by decide) ⟨rfl, R⟩) (fun a b d ha hb hd ea eb ed => ?_)
    rcases o with o | o | o
    · rw [ea] at o; exact absurd o (ur_rg_no c6 ha)
    · rw [eb] at o; exact absurd o (ur_rg_no c6 hb)
    · rw [ed] at o; exact absurd o (ur_rg_no c6 hd)
  unfold wpX_resolve
  refine xa_inR c6 (fun o => br_t rfl (bad (Or.inl o))) (fun x hx ex => br_f (by decide) ?_)
  refine xa_inR c6 (fun o => br_t rfl (bad (Or.inr (Or.inl o)))) (fun y hy ey => br_f (by decide) ?_)
  refine xa_inR c6 (fun o => br_t rfl (bad (Or.inr (Or.inr o)))) (fun z hz ez => br_f (by decide) ?_)
  subst ex ey ez
  rw [nI_clamp (show x < 2 ^ 31 by omega), nI_clamp (show y < 2 ^ 31 by omega)]
  refine ⟨vp_in_nI (by omega) (by decide), ?_⟩
  have chk : ∀ (post : Int32 → Prop), post (if (L0 x).isNone = true ∨ (L0 y).isNone = true then 3 else 0) → wpY_check post (ur_y (nI li) (nI cn) c n s e) (nI x) (nI y) (nI z) := by
    intro post p
    refine ya_chkS c6 hM' hk2 (fun o => ?_) (fun a b d ha hb hd ea eb ed => ?_)
    · rcases o with o | o | o
      · exact absurd o (ur_rg_no c6 hx)
      · exact absurd o (ur_rg_no c6 hy)
      · exact absurd o (ur_rg_no c6 hz)
    · have e1 : x = a := (nI_eq (by omega) (by omega)).mp ea
      have e2 : y = b := (nI_eq (by omega) (by omega)).mp eb
      subst e1
      subst e2
      exact p
  have emp : ((L0 x).isNone = true ∨ (L0 y).isNone = true) → wpY_resolve (fun r' v' => r' = 3 ∧ i_Rel (k + 4) (ur_x bh (nI li) (nI cn) m l fa ta wa) v') (ur_y (nI li) (nI cn) c n s e) (nI x) (nI y) (nI z) := by
    intro q
    unfold wpY_resolve
    refine chk _ ?_
    rw [if_pos q]
    exact br_f (by decide) ⟨rfl, R⟩
  cases hx0 : L0 x with
  | none =>
    rw [(hM x (by omega)).1 ((hk1 x (by omega)).trans hx0)]
    exact br_t ur_m1lt (emp (Or.inl (by rw [hx0]; rfl)))
  | some B =>
    have hLx := (hk1 x (by omega)).trans hx0
    have gB := h3.1 x (by omega) B hx0
    rw [ur_M_len hM (by omega) hLx]
    refine br_f (nI_pos (by omega)) ⟨vp_in_nI (by omega) (by decide), ?_⟩
    cases hy0 : L0 y with
    | none =>
      rw [(hM y (by omega)).1 ((hk1 y (by omega)).trans hy0)]
      exact br_f ur_m1le (emp (Or.inr (by rw [hy0]; rfl)))
    | some T =>
      have hLy := (hk1 y (by omega)).trans hy0
      have gT := h3.1 y (by omega) T hy0
      obtain ⟨a7, ha7⟩ := hs1 7 (by decide) (by decide)
      obtain ⟨a8, ha8⟩ := hs1 8 (by decide) (by decide)
      rw [ur_M_len hM (by omega) hLy]
      refine br_t (nI_pos' (by omega)) (xa_split x hM (by omega) hLx (fun fa1 ta1 bB1 _ => ?_))
      refine xa_split y hM (by omega) hLy (fun fa2 ta2 bT keep => ?_)
      have bB : ur_BX x B fa2 ta2 := by
        by_cases exy : x = y
        · subst exy
          have : B = T := by rw [hx0] at hy0; exact Option.some.inj hy0
          subst this; exact bT
        · exact keep x B exy bB1
      have nn : ¬ ((L0 x).isNone = true ∨ (L0 y).isNone = true) := by rw [hx0, hy0]; intro q; rcases q with q | q <;> cases q
      refine xa_ib x hM (by omega) hLx bB (ur_br (fun ib => ?_) (fun ib => ?_))
      · unfold wpY_resolve
        refine chk _ ?_
        rw [if_neg nn]
        refine br_t rfl (ya_tr1 x c6 hSY hx hx0 (by omega) gB.2 (fun c1 n1 s1 e1 S1 => ?_))
        refine ur_brp (ur_tr2 _ _ _ _) (fun _ => ⟨rfl, ur_rel hl' hSX S1 h3⟩) (fun w => by rw [ib] at w; cases w)
      · refine xa_bd x y ⟨by omega, by omega, by omega, hLx, bB, by omega⟩ ⟨by omega, by omega, by omega, hLy, bT, by omega⟩ (ur_W_i hM ha7 ha8) (fun m1 l1 t g1 => ?_)
        have SX1 := ur_W_St g1 hk1 hs1
        obtain ⟨A, hA, A7, A8, kA⟩ := g1
        have eA : l1 7 = nI (ur_bd B T).length := ur_M_len hA (by decide) A7
        have bA := ur_M_le hA (r := 7) (by decide) A7
        -- the reference, up to its own test of the length
        have yr : ∀ (post : Int32 → SY → Prop), (∀ c' n' s' e' B', ur_M 256 B' c' n' → B' 7 = some (ur_bd B T) → (∀ j, j < 7 → B' j = L0 j) → (∀ j, 7 ≤ j → j < 11 → ∃ t, B' j = some t) → ((n' 7 ≤ nI li → wpY_copy (fun u => post 0 u) (ur_y (nI li) (nI cn) c' n' s' e') 7 (nI z)) ∧ (¬ n' 7 ≤ nI li → post 14 (ur_y (nI li) (nI cn) c' n' s' e')))) → wpY_resolve post (ur_y (nI li) (nI cn) c n s e) (nI x) (nI y) (nI z) := by
          intro post p
          unfold wpY_resolve
          refine chk _ ?_
          rw [if_neg nn]
          refine br_t rfl (ya_tr1 x c6 hSY hx hx0 (by omega) gB.2 (fun c1 n1 s1 e1 S1 => ?_))
          refine ur_brp (ur_tr2 _ _ _ _) (fun w => by rw [ib] at w; cases w) (fun _ => ?_)
          obtain ⟨D, hD, kD, sD⟩ := S1
          obtain ⟨d7, hd7⟩ := sD 7 (by decide) (by decide)
          obtain ⟨d8, hd8⟩ := sD 8 (by decide) (by decide)
          refine ya_bd x y ⟨by omega, by omega, by omega, (kD x (by omega)).trans hx0, by omega⟩ ⟨by omega, by omega, by omega, (kD y (by omega)).trans hy0, by omega⟩ (ur_W_i hD hd7 hd8) (fun c2 n2 s2 e2 t2 g2 => ?_)
          obtain ⟨E, hE, E7, E8, kE⟩ := g2
          exact p c2 n2 s2 e2 E hE E7 (fun j hj => (kE j (by omega) (by omega)).trans (kD j hj)) (ur_scr E7 E8 kE sD)
        show ((l1 7 ≤ nI li → _) ∧ (¬ l1 7 ≤ nI li → _))
        rw [eA]
        refine pk_le (ur_bd B T).length li (fun w => ?_) (fun w => ?_)
        · refine xa_copy 7 z hA (by decide) (by omega) (by omega) A7 (fun m2 l2 g2 => ?_)
          refine yr _ (fun c1 n1 s1 e1 B1 M1 b17 b1k b1s => ?_)
          rw [ur_M_len M1 (r := 7) (by decide) b17]
          refine br_t (nI_le w (by omega)) (ya_copy 7 z M1 (by decide) (by omega) (by omega) b17 (fun c3 n3 g3 => ⟨rfl, ?_⟩))
          exact ur_rel hl' (ur_St_put (by omega) g2 (fun j hj => (kA j (by omega) (by omega)).trans (hk1 j hj)) (ur_scr A7 A8 kA hs1)) (ur_St_put (by omega) g3 b1k b1s) (ur_Iv_put h3 (by omega) w (ur_bd_good gB.2 gT.2 ib))
        · refine yr _ (fun c1 n1 s1 e1 B1 M1 b17 b1k b1s => ?_)
          rw [ur_M_len M1 (r := 7) (by decide) b17]
          exact br_f (nI_ge w (by omega)) ⟨rfl, ur_rel hl' SX1 ⟨B1, M1, b1k, b1s⟩ h3⟩
end
section
/-! relativise -/
theorem i_vc_relativise {k : Nat} {u : SX} {v : SY} (I : i_Rel k u v) (hk : k + 4 ≤ 2050) (v1 : Int32) (v2 : Int32) (v3 : Int32) : wpX_relativise (fun r u' => wpY_relativise (fun r' v' => r' = r ∧ i_Rel (k + 4) u' v') v v1 v2 v3) u v1 v2 v3 := by
  refine ur_el (P := fun u v => wpX_relativise (fun r u' => wpY_relativise (fun r' v' => r' = r ∧ i_Rel (k + 4) u' v') v v1 v2 v3) u v1 v2 v3) I (fun li cn L0 bh m l fa ta wa c n s e hl h1 h2 h3 => ?_)
  have hSX := h1
  have hSY := h2
  have R : i_Rel (k + 4) (ur_x bh (nI li) (nI cn) m l fa ta wa) (ur_y (nI li) (nI cn) c n s e) := ur_rel hl h1 h2 h3
  obtain ⟨L, hM, hk1, hs1⟩ := h1
  obtain ⟨L', hM', hk2, hs2⟩ := h2
  have hl' := hl
  obtain ⟨_, l40, _, c6⟩ := hl
  have bad : (ur_rg cn v1 ∨ ur_rg cn v2 ∨ ur_rg cn v3) → wpY_relativise (fun r' v' => r' = 2 ∧ i_Rel (k + 4) (ur_x bh (nI li) (nI cn) m l fa ta wa) v') (ur_y (nI li) (nI cn) c n s e) v1 v2 v3 := by
    intro o
    unfold wpY_relativise
    refine ya_chkS c6 hM' hk2 (fun _ => br_f (by decide) ⟨rfl, R⟩) (fun a b d ha hb hd ea eb ed => ?_)
    rcases o with o | o | o
    · rw [ea] at o; exact absurd o (ur_rg_no c6 ha)
    · rw [eb] at o; exact absurd o (ur_rg_no c6 hb)
    · rw [ed] at o; exact absurd o (ur_rg_no c6 hd)
  unfold wpX_relativise
  refine xa_inR c6 (fun o => br_t rfl (bad (Or.inl o))) (fun x hx ex => br_f (by decide) ?_)
  refine xa_inR c6 (fun o => br_t rfl (bad (Or.inr (Or.inl o)))) (fun y hy ey => br_f (by decide) ?_)
  refine xa_inR c6 (fun o => br_t rfl (bad (Or.inr (Or.inr o)))) (fun z hz ez => br_f (by decide) ?_)
  subst ex ey ez
  rw [nI_clamp (show x < 2 ^ 31 by omega), nI_clamp (show y < 2 ^ 31 by omega)]
  refine ⟨vp_in_nI (by omega) (by decide), ?_⟩
  have chk : ∀ (post : Int32 → Prop), post (if (L0 x).isNone = true ∨ (L0 y).isNone = true then 3 else 0) → wpY_check post (ur_y (nI li) (nI cn) c n s e) (nI x) (nI y) (nI z) := by
    intro post p
    refine ya_chkS c6 hM' hk2 (fun o => ?_) (fun a b d ha hb hd ea eb ed => ?_)
    · rcases o with o | o | o
      · exact absurd o (ur_rg_no c6 hx)
      · exact absurd o (ur_rg_no c6 hy)
      · exact absurd o (ur_rg_no c6 hz)
    · have e1 : x = a := (nI_eq (by omega) (by omega)).mp ea
      have e2 : y = b := (nI_eq (by omega) (by omega)).mp eb
      subst e1
      subst e2
      exact p
  have emp : ((L0 x).isNone = true ∨ (L0 y).isNone = true) → wpY_relativise (fun r' v' => r' = 3 ∧ i_Rel (k + 4) (ur_x bh (nI li) (nI cn) m l fa ta wa) v') (ur_y (nI li) (nI cn) c n s e) (nI x) (nI y) (nI z) := by
    intro q
    unfold wpY_relativise
    refine chk _ ?_
    rw [if_pos q]
    exact br_f (by decide) ⟨rfl, R⟩
  cases hx0 : L0 x with
  | none =>
    rw [(hM x (by omega)).1 ((hk1 x (by omega)).trans hx0)]
    exact br_t ur_m1lt (emp (Or.inl (by rw [hx0]; rfl)))
  | some B =>
    have hLx := (hk1 x (by omega)).trans hx0
    have gB := h3.1 x (by omega) B hx0
    rw [ur_M_len hM (by omega) hLx]
    refine br_f (nI_pos (by omega)) ⟨vp_in_nI (by omega) (by decide), ?_⟩
    cases hy0 : L0 y with
    | none =>
      rw [(hM y (by omega)).1 ((hk1 y (by omega)).trans hy0)]
      exact br_f ur_m1le (emp (Or.inr (by rw [hy0]; rfl)))
    | some G =>
      have hLy := (hk1 y (by omega)).trans hy0
      have gG := h3.1 y (by omega) G hy0
      obtain ⟨a7, ha7⟩ := hs1 7 (by decide) (by decide)
      obtain ⟨a8, ha8⟩ := hs1 8 (by decide) (by decide)
      obtain ⟨a9, ha9⟩ := hs1 9 (by decide) (by decide)
      obtain ⟨a10, ha10⟩ := hs1 10 (by decide) (by decide)
      rw [ur_M_len hM (by omega) hLy]
      refine br_t (nI_pos' (by omega)) (xa_split x hM (by omega) hLx (fun fa1 ta1 bB1 _ => ?_))
      refine xa_split y hM (by omega) hLy (fun fa2 ta2 bG keep => ?_)
      have bB : ur_BX x B fa2 ta2 := by
        by_cases exy : x = y
        · subst exy
          have : B = G := by rw [hx0] at hy0; exact Option.some.inj hy0
          subst this; exact bG
        · exact keep x B exy bB1
      have nn : ¬ ((L0 x).isNone = true ∨ (L0 y).isNone = true) := by rw [hx0, hy0]; intro q; rcases q with q | q <;> cases q
      -- the reference, up to its answers
      have yr : ∀ (post : Int32 → SY → Prop),
          (ur_ib B = false → ∀ c' n' s' e', ur_St 256 L0 c' n' → post 11 (ur_y (nI li) (nI cn) c' n' s' e')) →
          (ur_ib B = true → (ur_B G 0).isSome = false → ∀ c' n' s' e', ur_St 256 L0 c' n' → post 12 (ur_y (nI li) (nI cn) c' n' s' e')) →
          (ur_ib B = true → (ur_B G 0).isSome = true → (ur_icl B && ur_icl G) = false → ∀ c' n' s' e', ur_St 256 L0 c' n' → post 13 (ur_y (nI li) (nI cn) c' n' s' e')) →
          (ur_ib B = true → (ur_B G 0).isSome = true → (ur_icl B && ur_icl G) = true → ∀ c' n' s' e' t10, ur_IB B G (ur_QS G (ur_np B) (ur_cut G)) t10 → ur_St 256 (ur_s L0 z (some t10)) c' n' → post 0 (ur_y (nI li) (nI cn) c' n' s' e')) →
          wpY_relativise post (ur_y (nI li) (nI cn) c n s e) (nI x) (nI y) (nI z) := by
        intro post p11 p12 p13 p0
        unfold wpY_relativise
        refine chk _ ?_
        rw [if_neg nn]
        refine br_t rfl (ya_tr1 x c6 hSY hx hx0 (by omega) gB.2 (fun c1 n1 s1 e1 S1 => ?_))
        refine ya_tr1 y c6 S1 hy hy0 (by omega) gG.2 (fun c2 n2 s2 e2 S2 => ⟨vp_in_nI (by omega) (by decide), ?_⟩)
        have S2' := S2
        obtain ⟨D, hD, kD, sD⟩ := S2'
        have hDx : D x = some B := (kD x (by omega)).trans hx0
        have hDy : D y = some G := (kD y (by omega)).trans hy0
        refine nm_r (e' := nI G.length) (by rw [nI_clamp (by omega)]; exact ur_M_len hD (by omega) hDy) ?_
        refine ur_brp (ur_tr2 _ _ _ _) (fun w => p11 w c2 n2 s2 e2 S2) (fun w1 => ?_)
        refine ur_brp (ur_tr1 _ _ _ _) (fun w => p12 w1 w c2 n2 s2 e2 S2) (fun w2 => ?_)
        refine ur_brp (ur_tr4 _ _ _ _ _ _ _ _) (fun w => p13 w1 w2 w c2 n2 s2 e2 S2) (fun w3 => ?_)
        have hsb := ur_l0' w2
        have hB0 : ur_B G 0 = some (0, ur_sb G - 1) := by rw [ur_B0, if_neg (by omega)]
        have hCB : ur_C B 4 = ur_ex B (ur_e B) (ur_q B) := ur_C_s (ur_B4 B)
        have q1 := ur_e_hi B
        refine ya_begin x 4 hD (by omega) hDx (by decide) (ya_end x 4 hD (by omega) hDx (by decide) (ya_begin y 4 hD (by omega) hDy (by decide) (ya_end y 4 hD (by omega) hDy (by decide) (ya_end y 0 hD (by omega) hDy (by decide) ?_))))
        rw [ur_E_0 (ur_B4 B), ur_E_1 (ur_B4 B), ur_E_0 (ur_B4 G), ur_E_1 (ur_B4 G), ur_E_1 hB0]
        refine nm_r (e' := nI (ur_sb G)) (by rw [nI_1]; exact congrArg nI (by omega)) (ya_begin y 6 hD (by omega) hDy (by decide) ?_)
        obtain ⟨t9, t10, V2⟩ := ur_St_V S2
        have fin : ∃ q, wY_relativise_146 post (nI x) (nI y) (nI z) (nI G.length) (nI (ur_q B)) (nI (ur_e G)) (nI (ur_q G)) (nI (ur_sb G)) (nI (ur_f G)) (nI li) (nI cn) c2 n2 s2 e2 q 4 (nI (ur_e B)) :=
          ⟨_, yl_146 x y z li (by omega) (by omega) (by omega) hx0 hy0 (by omega) gG.1 l40 V2 (p0 w1 w2 w3) (ur_ex B (ur_e B + 0) (ur_q B)) 0 0 rfl (by omega) (by rw [hCB, Nat.zero_add]; rfl)⟩
        have f1 := ur_f_hi G
        by_cases zf : ur_f G = G.length
        · have hB6 : ur_B G 6 = none := by rw [ur_B6, if_pos zf]
          rw [ur_E_n hB6]
          rw [zf] at fin
          exact br_f ur_m1le fin
        · have hB6 : ur_B G 6 = some (ur_f G + 1, G.length) := by rw [ur_B6, if_neg zf]
          rw [ur_E_0 hB6]
          exact br_t (nI_pos' (by omega)) (nm_r (e' := nI (ur_f G)) (nI_pred _) fin)
      refine xa_ib x hM (by omega) hLx bB (ur_br (fun ib => ?_) (fun ib => ?_))
      · refine yr _ (fun _ c1 n1 s1 e1 S1 => ⟨rfl, ur_rel hl' hSX S1 h3⟩) (fun w => ?_) (fun w => ?_) (fun w => ?_)
        · rw [ib] at w; cases w
        · rw [ib] at w; cases w
        · rw [ib] at w; cases w
      refine xa_has y 0 (by omega) (by decide) bG (by omega) (ur_br (fun hs => ?_) (fun hs => ?_))
      · refine yr _ (fun w => ?_) (fun _ _ c1 n1 s1 e1 S1 => ⟨rfl, ur_rel hl' hSX S1 h3⟩) (fun _ w => ?_) (fun _ w => ?_)
        · rw [ib] at w; cases w
        · rw [hs] at w; cases w
        · rw [hs] at w; cases w
      refine xa_icl x (by omega) hLx (by omega) bB (ur_W_i hM ha7 ha8) (fun m1 l1 t1 g1 => ur_br (fun c1 => ?_) (fun c1 => ?_))
      · refine yr _ (fun w => ?_) (fun _ w => ?_) (fun _ _ _ c1 n1 s1 e1 S1 => ⟨rfl, ur_rel hl' (ur_W_St g1 hk1 hs1) S1 h3⟩) (fun _ _ w => ?_)
        · rw [ib] at w; cases w
        · rw [hs] at w; cases w
        · rw [c1] at w; cases w
      refine xa_icl y (by omega) hLy (by omega) bG g1 (fun m2 l2 t2 g2 => ur_br (fun c2 => ?_) (fun c2 => ?_))
      · refine yr _ (fun w => ?_) (fun _ w => ?_) (fun _ _ _ c1 n1 s1 e1 S1 => ⟨rfl, ur_rel hl' (ur_W_St g2 hk1 hs1) S1 h3⟩) (fun _ _ w => ?_)
        · rw [ib] at w; cases w
        · rw [hs] at w; cases w
        · rw [c1, c2] at w; cases w
      refine xa_search x y (by omega) (by omega) hx0 hy0 (by omega) (by omega) hs bB bG (ur_W_V g2 ha9 ha10 hk1) (fun bh3 m3 l3 fa3 ta3 wa3 t9 t10 V3 I3 => ?_)
      have SX3 := ur_V_St V3
      obtain ⟨A, hA, A9, A10, A7, A8, kA⟩ := V3
      refine xa_copy 10 z hA (by decide) (by omega) (by omega) A10 (fun m4 l4 g4 => ?_)
      have sA : ∀ j, 7 ≤ j → j < 11 → ∃ t, A j = some t := by
        intro j a b
        have : j = 7 ∨ j = 8 ∨ j = 9 ∨ j = 10 := by omega
        rcases this with rfl | rfl | rfl | rfl
        · exact A7
        · exact A8
        · exact ⟨_, A9⟩
        · exact ⟨_, A10⟩
      refine yr _ (fun w => ?_) (fun _ w => ?_) (fun _ _ w => ?_) (fun _ _ _ c5 n5 s5 e5 t I5 S5 => ⟨rfl, ?_⟩)
      · rw [ib] at w; cases w
      · rw [hs] at w; cases w
      · rw [c1, c2] at w; cases w
      · have et : t = t10 := ur_IB_u I5 I3
        subst et
        have tl := ur_bet_len I5.2.1
        have tg : ur_good t := by
          rcases I5.1 with q | q
          · rw [q]; exact gG.2
          · have q2 := q.2
            unfold ur_okc at q2
            rw [Bool.and_eq_true, decide_eq_true_eq] at q2
            exact ur_J_good.mp q2.1
        exact ur_rel hl' (ur_St_put (by omega) g4 kA sA) S5 (ur_Iv_put h3 (by omega) (by omega) tg)
end
