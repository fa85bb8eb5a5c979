section
theorem pk_us {f : Nat → Int32} {k : Nat} {x : Int32} : upd f k x k = x := if_pos rfl
theorem pk_un {f : Nat → Int32} {k j : Nat} {x : Int32} (h : j ≠ k) : upd f k x j = f j := if_neg h
theorem pk_sub {a b : Nat} (h : b ≤ a) : nI a - nI b = nI (a - b) := by
  obtain ⟨c, rfl⟩ : ∃ c, a = c + b := ⟨a - b, by omega⟩
  rw [← nI_add, Int32.add_sub_cancel, Nat.add_sub_cancel]
theorem pk_m1 (n : Nat) : nI (n + 1) + (-1) = nI n := by
  rw [← nI_1, Int32.add_assoc, show (1 : Int32) + (-1) = 0 from rfl, Int32.add_zero]
theorem pk_mul (a b : Nat) : nI a * nI b = nI (a * b) := (Int32.ofNat_mul a b).symm
theorem pk_div {a d : Nat} (ha : a < 2 ^ 31) (h0 : 0 < d) (hd : d < 2 ^ 31) : nI a / nI d = nI (a / d) := by
  apply Int32.toInt_inj.mp
  rw [lg_idiv_nonneg (by rw [nI_toInt ha]; omega) (by rw [nI_toInt hd]; omega), nI_toInt ha, nI_toInt hd, nI_toInt (Nat.lt_of_le_of_lt (Nat.div_le_self a d) ha)]
  first | rfl | exact (Int.natCast_ediv _ _).symm
theorem pk_rem {a d : Nat} (ha : a < 2 ^ 31) (h0 : 0 < d) (hd : d < 2 ^ 31) : nI a - nI a / nI d * nI d = nI (a % d) := by
  rw [pk_div ha h0 hd, pk_mul, pk_sub (Nat.div_mul_le_self a d)]
  exact congrArg nI (by have := Nat.div_add_mod' a d; omega)
theorem pk_sub_toInt {a b : Nat} (ha : a < 2 ^ 30) (hb : b < 2 ^ 30) : (nI a - nI b).toInt = (a : Int) - b := by
  rw [Int32.toInt_sub, nI_toInt (by omega), nI_toInt (by omega)]
  exact Int.bmod_eq_of_le (by omega) (by omega)
theorem pk_sneg {a b : Nat} (hb : b < 2 ^ 30) (h : a < b) : nI a - nI b < 0 := by
  rw [Int32.lt_iff_toInt_lt, pk_sub_toInt (by omega) hb, show (0 : Int32).toInt = 0 from by decide]
  omega
theorem pk_ix (x : Int32) {n : Nat} (hn : n < 2 ^ 31) : x < 0 ∨ nI n ≤ x ∨ ∃ j : Nat, j < n ∧ x = nI j := by
  by_cases h : x < 0
  · exact Or.inl h
  · obtain ⟨j, hj, rfl⟩ := nI_of h
    by_cases h2 : j < n
    · exact Or.inr (Or.inr ⟨j, h2, rfl⟩)
    · exact Or.inr (Or.inl (nI_le (by omega) hj))
theorem pk_le {x y : Int32} {A B : Prop} (a b : Nat) (f : a ≤ b → A) (g : b < a → B) (hx : x = nI a := by rfl) (hy : y = nI b := by rfl) (ha : a < 2 ^ 31 := by omega) (hb : b < 2 ^ 31 := by omega) : (x ≤ y → A) ∧ (¬ x ≤ y → B) := by
  subst hx hy
  rw [nI_leI ha hb]
  exact ⟨f, fun z => g (by omega)⟩
theorem pk_lt {x y : Int32} {A B : Prop} (a b : Nat) (f : a < b → A) (g : b ≤ a → B) (hx : x = nI a := by rfl) (hy : y = nI b := by rfl) (ha : a < 2 ^ 31 := by omega) (hb : b < 2 ^ 31 := by omega) : (x < y → A) ∧ (¬ x < y → B) := by
  subst hx hy
  rw [nI_ltI ha hb]
  exact ⟨f, fun z => g (by omega)⟩
theorem pk_eq {x y : Int32} {A B : Prop} (a b : Nat) (f : a = b → A) (g : a ≠ b → B) (hx : x = nI a := by rfl) (hy : y = nI b := by rfl) (ha : a < 2 ^ 31 := by omega) (hb : b < 2 ^ 31 := by omega) : (x = y → A) ∧ (¬ x = y → B) := by
  subst hx hy
  rw [nI_eq ha hb]
  exact ⟨f, g⟩
theorem pk_in {x : Int32} (n N : Nat) (h : n < N) (hx : x = nI n := by rfl) (hN : N < 2 ^ 31 := by omega) : vp_in x N := by
  subst hx
  exact vp_in_nI h hN
theorem pk_cl {x : Int32} (n : Nat) (hx : x = nI n := by rfl) (h : n < 2 ^ 31 := by omega) : x.toNatClampNeg = n := by
  subst hx
  exact nI_clamp h
theorem pk_tn {n : Nat} (h : n < 2 ^ 32) : (nI n).toBitVec.toNat = n := Nat.mod_eq_of_lt h
theorem pk_and (x : Int32) {m : Int32} (k : Nat) (hm : m.toBitVec.toNat = 2 ^ k - 1) : x &&& m = nI (x.toBitVec.toNat % 2 ^ k) := by
  apply Int32.toBitVec_inj.mp
  apply BitVec.eq_of_toNat_eq
  rw [Int32.toBitVec_and, BitVec.toNat_and, hm, Nat.and_two_pow_sub_one_eq_mod]
  show _ = (BitVec.ofNat 32 _).toNat
  rw [BitVec.toNat_ofNat]
  exact (Nat.mod_eq_of_lt (Nat.lt_of_le_of_lt (Nat.mod_le _ _) x.toBitVec.isLt)).symm
theorem pk_andN {n : Nat} (h : n < 2 ^ 32) {m : Int32} (k : Nat) (hm : m.toBitVec.toNat = 2 ^ k - 1) : nI n &&& m = nI (n % 2 ^ k) := by
  rw [pk_and _ k hm, pk_tn h]
theorem pk_shl (a s : Int32) (k : Nat) (hs : (s.toBitVec.smod 32).toNat = k) : (a <<< s).toBitVec.toNat = a.toBitVec.toNat * 2 ^ k % 2 ^ 32 := by
  show (a.toBitVec <<< (s.toBitVec.smod 32).toNat).toNat = _
  rw [hs, BitVec.toNat_shiftLeft, Nat.shiftLeft_eq]
theorem pk_shlN {n : Nat} (s : Int32) (k : Nat) (hs : (s.toBitVec.smod 32).toNat = k) (h : n * 2 ^ k < 2 ^ 32) : nI n <<< s = nI (n * 2 ^ k) := by
  apply Int32.toBitVec_inj.mp
  apply BitVec.eq_of_toNat_eq
  have hn : n < 2 ^ 32 := Nat.lt_of_le_of_lt (Nat.le_mul_of_pos_right n (Nat.two_pow_pos k)) h
  rw [pk_shl _ _ k hs, pk_tn hn, pk_tn h, Nat.mod_eq_of_lt h]
theorem pk_shr (a s : Int32) (k : Nat) (hs : (s.toBitVec.smod 32).toNat = k) : (a >>> s).toInt = a.toInt >>> k := by
  show (a.toBitVec.sshiftRight (s.toBitVec.smod 32).toNat).toInt = _
  rw [hs, BitVec.toInt_sshiftRight]
  rfl
theorem pk_shrN {n : Nat} (h : n < 2 ^ 31) (s : Int32) (k : Nat) (hs : (s.toBitVec.smod 32).toNat = k) : nI n >>> s = nI (n / 2 ^ k) := by
  apply Int32.toInt_inj.mp
  have h2 : n / 2 ^ k ≤ n := Nat.div_le_self _ _
  rw [pk_shr _ _ k hs, nI_toInt h, nI_toInt (by omega), Int.shiftRight_eq_div_pow]
  rfl
theorem pk_least (P : Nat → Prop) (h : ∃ k, P k) : ∃ k, P k ∧ ∀ j, j < k → ¬ P j := by
  obtain ⟨k, hk⟩ := h
  induction k using Nat.strongRecOn with
  | ind k ih =>
    by_cases e : ∃ j, j < k ∧ P j
    · obtain ⟨j, hj, pj⟩ := e
      exact ih j hj pj
    · exact ⟨k, hk, fun j hj pj => e ⟨j, hj, pj⟩⟩
theorem s_l : ∀ n, n < 32 → ((nI n &&& 31).toBitVec.smod 32).toNat = n := by decide +kernel
theorem nx_and (a b : Nat) : nI a &&& nI b = nI (a &&& b) := by
  apply Int32.toBitVec_inj.1
  show BitVec.ofNat 32 a &&& BitVec.ofNat 32 b = BitVec.ofNat 32 (a &&& b)
  apply BitVec.eq_of_getLsbD_eq
  intro i hi
  simp [hi]
/-- an array of naturals as the program holds it -/
def nA (f : Nat → Nat) : Nat → Int32 := fun j => nI (f j)
def ba_up (f : Nat → Nat) (k v : Nat) : Nat → Nat := fun j => if j = k then v else f j
theorem ba_us {f : Nat → Nat} {k v : Nat} : ba_up f k v k = v := if_pos rfl
theorem ba_un {f : Nat → Nat} {k v j : Nat} (h : j ≠ k) : ba_up f k v j = f j := if_neg h
theorem ba_upd (f : Nat → Nat) (k v : Nat) : upd (nA f) k (nI v) = nA (ba_up f k v) := by
  funext j
  unfold upd nA ba_up
  by_cases h : j = k
  · rw [if_pos h, if_pos h]
  · rw [if_neg h, if_neg h]
theorem ba_0 : (fun _ => 0 : Nat → Int32) = nA (fun _ => 0) := rfl
theorem ba_at {f : Nat → Nat} {j : Nat} (h : j < 2 ^ 31) : nA f (nI j).toNatClampNeg = nI (f j) := by
  show nI (f _) = _
  rw [nI_clamp h]
theorem ba_m1 {n : Nat} (h : n < 2 ^ 31) : ¬ nI n = -1 := by
  intro e
  have := congrArg Int32.toInt e
  rw [nI_toInt h, show (-1 : Int32).toInt = -1 from by decide] at this
  omega
theorem ba_m3 {n : Nat} (h : n < 2 ^ 31) : ¬ nI n = -3 := by
  intro e
  have := congrArg Int32.toInt e
  rw [nI_toInt h, show (-3 : Int32).toInt = -3 from by decide] at this
  omega
theorem ba_10 : ¬ (1 : Int32) = 0 := by decide
theorem ba_or {a b k : Nat} (h : a < 2 ^ k) : nI a ||| nI (b * 2 ^ k) = nI (b * 2 ^ k + a) := by
  apply Int32.toBitVec_inj.1
  show BitVec.ofNat 32 a ||| BitVec.ofNat 32 (b * 2 ^ k) = BitVec.ofNat 32 (b * 2 ^ k + a)
  rw [Nat.mul_comm, Nat.two_pow_add_eq_or_of_lt h, Nat.or_comm]
  apply BitVec.eq_of_getLsbD_eq
  intro i hi
  simp [hi]
theorem ba_sh {w i : Nat} (hw : w < 2 ^ 31) (hi : i < 32) : nI w >>> (nI i &&& 31) = nI (w / 2 ^ i) := pk_shrN hw _ i (s_l i hi)
theorem ba_a1 {w : Nat} (hw : w < 2 ^ 31) : nI w &&& 1 = nI (w % 2) := pk_andN (m := 1) (by omega) 1 (by decide)
theorem ba_neg1 : (-1 : Int32) < 0 := by decide
end
section
/-! words: 1 is the empty word, 2w+a is w followed by a -/
def wk_len (w : Nat) : Nat := if w < 2 then 0 else if w < 4 then 1 else if w < 8 then 2 else if w < 16 then 3 else 4
def wk_wo (w i : Nat) : Nat := w / 2 ^ (wk_len w - 1 - i + 1) * 2 ^ (wk_len w - 1 - i) + w % 2 ^ (wk_len w - 1 - i)
def wk_hd (w i : Nat) : Nat := w / 2 ^ (wk_len w - 1 - i) % 2
def wk_pp (a w : Nat) : Nat := w + 2 ^ wk_len w + a * 2 ^ wk_len w
def wk_g (v : Nat) : Nat → Nat → Nat → Nat
  | 0, _, r => r
  | k + 1, i, r => if 1 < r ∧ r % 2 = v / 2 ^ i % 2 then wk_g v k (i + 1) (r / 2) else wk_g v k (i + 1) r
def wk_sb (u v : Nat) : Bool := wk_g v (wk_len v) 0 u == 1
def wk_k (m w : Nat) : Nat → Nat → Nat → Nat
  | 0, _, k => k
  | d + 1, i, k => if m / 2 ^ i % 2 = 1 then wk_k m w d (i + 1) (k * 2 + wk_hd w i) else wk_k m w d (i + 1) k
theorem wk_refl : ∀ a, a < 16 → 1 ≤ a → wk_sb a a = true := by decide +kernel
theorem wk_trans : ∀ a, a < 16 → ∀ b, b < 16 → wk_sb a b = true → ∀ c, c < 16 → wk_sb b c = true → wk_sb a c = true := by decide +kernel
theorem wk_le : ∀ a, a < 16 → ∀ b, b < 16 → 1 ≤ b → wk_sb a b = true → a ≤ b := by decide +kernel
theorem wk_pos : ∀ a, a < 16 → ∀ b, b < 16 → wk_sb a b = true → 1 ≤ a := by decide +kernel
def wk_dr (a b : Nat) : Bool := (decide (0 < wk_len b) && wk_sb a (wk_wo b 0)) || (decide (1 < wk_len b) && wk_sb a (wk_wo b 1)) || (decide (2 < wk_len b) && wk_sb a (wk_wo b 2))
theorem wk_drop0 : ∀ a, a < 16 → ∀ b, b < 16 → (decide (1 ≤ b) && wk_sb a b && decide (a ≠ b)) = true → wk_dr a b = true := by decide +kernel
theorem wk_drop {a b : Nat} (ha : a < 16) (hb : b < 16) (h1 : 1 ≤ b) (h : wk_sb a b = true) (hn : a ≠ b) : ∃ i, i < wk_len b ∧ wk_sb a (wk_wo b i) = true := by
  have z := wk_drop0 a ha b hb (by simp only [Bool.and_eq_true, decide_eq_true_eq]; exact ⟨⟨h1, h⟩, hn⟩)
  simp only [wk_dr, Bool.or_eq_true, Bool.and_eq_true, decide_eq_true_eq] at z
  rcases z with (h | h) | h
  · exact ⟨0, h⟩
  · exact ⟨1, h⟩
  · exact ⟨2, h⟩
theorem wk_len3 : ∀ b, b < 16 → wk_len b ≤ 3 := by decide +kernel
theorem wk_len4 : ∀ b, b < 32 → wk_len b ≤ 4 := by decide +kernel
theorem wk_wos0 : ∀ b, b < 16 → ∀ i, i < 3 → i < wk_len b → (1 ≤ wk_wo b i ∧ wk_wo b i < b ∧ wk_sb (wk_wo b i) b = true) := by decide +kernel
theorem wk_wos {b i : Nat} (hb : b < 16) (hi : i < wk_len b) : 1 ≤ wk_wo b i ∧ wk_wo b i < b ∧ wk_sb (wk_wo b i) b = true :=
  wk_wos0 b hb i (by have := wk_len3 b hb; omega) hi
theorem wk_p1c : ∀ a, a < 16 → ∀ b, b < 8 → ∀ x, x < 2 → (1 ≤ b ∧ 1 < a ∧ a % 2 = x ∧ wk_sb a (2 * b + x) = true) → wk_sb (a / 2) b = true := by decide +kernel
theorem wk_p1 : ∀ a, a < 16 → ∀ b, b < 8 → ∀ x, x < 2 → 1 ≤ b → 1 < a → a % 2 = x → wk_sb a (2 * b + x) = true → wk_sb (a / 2) b = true := fun a ha b hb x hx y0 y1 y2 y3 => wk_p1c a ha b hb x hx ⟨y0, y1, y2, y3⟩
theorem wk_p2c : ∀ a, a < 16 → ∀ b, b < 8 → ∀ x, x < 2 → (1 ≤ b ∧ (decide (1 < a) && decide (a % 2 = x)) = false ∧ wk_sb a (2 * b + x) = true) → wk_sb a b = true := by decide +kernel
theorem wk_p2 : ∀ a, a < 16 → ∀ b, b < 8 → ∀ x, x < 2 → 1 ≤ b → ¬ (1 < a ∧ a % 2 = x) → wk_sb a (2 * b + x) = true → wk_sb a b = true := by
  intro a ha b hb x hx y0 y1 y2
  refine wk_p2c a ha b hb x hx ⟨y0, ?_, y2⟩
  rw [← Bool.decide_and]
  exact decide_eq_false y1
theorem wk_p3 : ∀ a, a < 16 → 1 < a → wk_sb (a / 2) a = true := by decide +kernel
theorem wk_p4 : ∀ b, b < 8 → ∀ x, x < 2 → 1 ≤ b → wk_sb b (2 * b + x) = true := by decide +kernel
theorem wk_q1c : ∀ u, u < 8 → ∀ x, x < 8 → ∀ a, a < 2 → (1 ≤ u ∧ 1 ≤ x ∧ wk_sb u x = true) → wk_sb (wk_pp a u) (wk_pp a x) = true := by decide +kernel
theorem wk_q1 : ∀ u, u < 8 → ∀ x, x < 8 → ∀ a, a < 2 → 1 ≤ u → 1 ≤ x → wk_sb u x = true → wk_sb (wk_pp a u) (wk_pp a x) = true := fun u hu x hx a ha y0 y1 y2 => wk_q1c u hu x hx a ha ⟨y0, y1, y2⟩
theorem wk_q2 : ∀ u, u < 8 → ∀ a, a < 2 → 1 ≤ u → (wk_wo (wk_pp a u) 0 = u ∧ wk_hd (wk_pp a u) 0 = a ∧ wk_pp a u < 16 ∧ 2 ≤ wk_pp a u ∧ wk_len (wk_pp a u) = wk_len u + 1) := by decide +kernel
theorem wk_q3 : ∀ w, w < 16 → 2 ≤ w → (wk_pp (wk_hd w 0) (wk_wo w 0) = w ∧ wk_len (wk_wo w 0) + 1 = wk_len w ∧ wk_wo w 0 < 8 ∧ 1 ≤ wk_wo w 0) := by decide +kernel
theorem wk_q4 : ∀ u, u < 16 → ∀ a, a < 2 → 1 ≤ u → (wk_pp a u < 32 ∧ wk_len (wk_pp a u) = wk_len u + 1) := by decide +kernel
def wk_db (a u w : Nat) : Bool := wk_sb (wk_pp a u) (wk_wo (wk_pp a w) 0) || wk_sb (wk_pp a u) (wk_wo (wk_pp a w) 1) || (decide (2 ≤ wk_len w) && wk_sb (wk_pp a u) (wk_wo (wk_pp a w) 2)) || (decide (3 ≤ wk_len w) && wk_sb (wk_pp a u) (wk_wo (wk_pp a w) 3))
theorem wk_d0c : ∀ u, u < 8 → ∀ w, w < 16 → ∀ a, a < 2 → (decide (1 ≤ u) && decide (1 ≤ w) && wk_sb u w && decide (wk_len u < wk_len w)) = true → wk_db a u w = true := by decide +kernel
theorem wk_del {u w a : Nat} (hu : u < 8) (hw : w < 16) (ha : a < 2) (u1 : 1 ≤ u) (w1 : 1 ≤ w) (h : wk_sb u w = true) (hl : wk_len u < wk_len w) : ∃ i, i ≤ wk_len w ∧ wk_sb (wk_pp a u) (wk_wo (wk_pp a w) i) = true := by
  have z := wk_d0c u hu w hw a ha (by simp only [Bool.and_eq_true, decide_eq_true_eq]; exact ⟨⟨⟨u1, w1⟩, h⟩, hl⟩)
  simp only [wk_db, Bool.or_eq_true, Bool.and_eq_true, decide_eq_true_eq] at z
  rcases z with ((h | h) | h) | h
  · exact ⟨0, by omega, h⟩
  · exact ⟨1, by omega, h⟩
  · exact ⟨2, by omega, h.2⟩
  · exact ⟨3, by omega, h.2⟩
theorem wk_dl0 : ∀ w, w < 16 → ∀ a, a < 2 → ∀ i, i < 4 → (1 ≤ w ∧ i ≤ wk_len w) → (1 ≤ wk_wo (wk_pp a w) i ∧ wk_wo (wk_pp a w) i < 2 ^ (wk_len w + 1)) := by decide +kernel
theorem wk_dl {w a i : Nat} (hw : w < 16) (ha : a < 2) (w1 : 1 ≤ w) (hi : i ≤ wk_len w) : 1 ≤ wk_wo (wk_pp a w) i ∧ wk_wo (wk_pp a w) i < 2 ^ (wk_len w + 1) :=
  wk_dl0 w hw a ha i (by have := wk_len3 w hw; omega) ⟨w1, hi⟩
theorem wk_full : ∀ w, w < 16 → ∀ K, K < 4 → 1 ≤ K → (K ≤ wk_len w ↔ 2 ^ K ≤ w) := by decide +kernel
theorem wk_fit : ∀ w, w < 16 → ∀ K, K < 4 → 1 ≤ w → (w < 2 ^ (K + 1) ↔ wk_len w ≤ K) := by decide +kernel
theorem wk_lsbc : ∀ a, a < 16 → ∀ b, b < 16 → (wk_sb a b = true ∧ 1 ≤ b) → (wk_len a ≤ wk_len b ∧ (wk_len a = wk_len b → a = b)) := by decide +kernel
theorem wk_lsb : ∀ a, a < 16 → ∀ b, b < 16 → wk_sb a b = true → 1 ≤ b → (wk_len a ≤ wk_len b ∧ (wk_len a = wk_len b → a = b)) := fun a ha b hb y0 y1 => wk_lsbc a ha b hb ⟨y0, y1⟩
theorem wk_pw : ∀ K, K < 4 → 2 ^ (K + 1) ≤ 16 := by decide +kernel
theorem wk_pw2 : ∀ K, K < 3 → 2 ^ (K + 1) ≤ 8 := by decide +kernel
theorem wk_hd2 (w i : Nat) : wk_hd w i < 2 := Nat.mod_lt _ (by decide)
theorem wk_y0 : ∀ v, v < 16 → ∀ w, w < 16 → ((wk_sb v w = true) ↔ (List.range 8).any (fun m => wk_k m w (wk_len w) 0 1 == v) = true) := by decide +kernel
theorem wk_y {v w : Nat} (hv : v < 16) (hw : w < 16) : (∃ m, m < 8 ∧ wk_k m w (wk_len w) 0 1 = v) ↔ wk_sb v w = true := by
  rw [wk_y0 v hv w hw, List.any_eq_true]
  constructor
  · rintro ⟨m, h1, h2⟩
    exact ⟨m, List.mem_range.mpr h1, beq_iff_eq.mpr h2⟩
  · rintro ⟨m, h1, h2⟩
    exact ⟨m, List.mem_range.mp h1, beq_iff_eq.mp h2⟩
end
section
/-! codes: ((p0*4 + p1)*16 + w0)*8 + w1 -/
def cd_st (c m : Nat) : Nat := if m = 0 then c / 512 else c / 128 % 4
def cd_wd (c q : Nat) : Nat := if q = 0 then c / 8 % 16 else c % 8
def cd_ss (c m s : Nat) : Nat := if m = 0 then s * 512 + c % 512 else c / 512 * 512 + s * 128 + c % 128
def cd_sw (c q w : Nat) : Nat := if q = 0 then c / 128 * 128 + w * 8 + c % 8 else c / 8 * 8 + w
def cd_cp (K0 K1 q : Nat) : Nat := if q = 0 then K0 else K1
def cd_V (S K0 K1 c : Nat) : Prop := c / 512 < S ∧ c / 128 % 4 < S ∧ 1 ≤ c / 8 % 16 ∧ c / 8 % 16 < 2 ^ (K0 + 1) ∧ 1 ≤ c % 8 ∧ c % 8 < 2 ^ (K1 + 1)
def cd_le (c d : Nat) : Prop := c / 128 = d / 128 ∧ wk_sb (c / 8 % 16) (d / 8 % 16) = true ∧ wk_sb (c % 8) (d % 8) = true
def cd_Pm (S K0 K1 R : Nat) : Prop := 1 ≤ S ∧ S ≤ 3 ∧ 1 ≤ K0 ∧ K0 ≤ 3 ∧ 1 ≤ K1 ∧ K1 ≤ 2 ∧ 1 ≤ R ∧ R ≤ 32
/-- the word fits the queue's place in a code -/
def cd_fw (q w : Nat) : Prop := w < 16 ∧ (q = 0 ∨ w < 8)
theorem cd_q {q : Nat} (h : q < 2) : q = 0 ∨ q = 1 := by omega
theorem cd_10 : ¬ (1 : Nat) = 0 := by decide
theorem cd_wd0 (c : Nat) : cd_wd c 0 = c / 8 % 16 := rfl
theorem cd_wd1 (c : Nat) : cd_wd c 1 = c % 8 := rfl
theorem cd_st0 (c : Nat) : cd_st c 0 = c / 512 := rfl
theorem cd_st1 (c : Nat) : cd_st c 1 = c / 128 % 4 := rfl
theorem cd_sw0 (c w : Nat) : cd_sw c 0 w = c / 128 * 128 + w * 8 + c % 8 := rfl
theorem cd_sw1 (c w : Nat) : cd_sw c 1 w = c / 8 * 8 + w := rfl
theorem cd_ss0 (c s : Nat) : cd_ss c 0 s = s * 512 + c % 512 := rfl
theorem cd_ss1 (c s : Nat) : cd_ss c 1 s = c / 512 * 512 + s * 128 + c % 128 := rfl
theorem cd_cp0 (a b : Nat) : cd_cp a b 0 = a := rfl
theorem cd_cp1 (a b : Nat) : cd_cp a b 1 = b := rfl
theorem cd_fwd {c q : Nat} (hq : q < 2) : cd_fw q (cd_wd c q) := by
  rcases cd_q hq with rfl | rfl
  · exact ⟨by rw [cd_wd0]; omega, Or.inl rfl⟩
  · exact ⟨by rw [cd_wd1]; omega, Or.inr (by rw [cd_wd1]; omega)⟩
theorem cd_w16 {c q : Nat} (hq : q < 2) : cd_wd c q < 16 := (cd_fwd hq).1
theorem cd_ws {c q w : Nat} (hq : q < 2) (hw : cd_fw q w) : cd_wd (cd_sw c q w) q = w := by
  rcases cd_q hq with rfl | rfl <;> simp only [cd_wd0, cd_wd1, cd_sw0, cd_sw1, cd_fw] at * <;> omega
theorem cd_wn {c q w q' : Nat} (hq : q < 2) (hq' : q' < 2) (hn : q' ≠ q) (hw : cd_fw q w) : cd_wd (cd_sw c q w) q' = cd_wd c q' := by
  rcases cd_q hq with rfl | rfl <;> rcases cd_q hq' with rfl | rfl <;> simp only [cd_wd0, cd_wd1, cd_sw0, cd_sw1, cd_fw] at * <;> omega
theorem cd_tw {c q w m : Nat} (hq : q < 2) (hm : m < 2) (hw : cd_fw q w) : cd_st (cd_sw c q w) m = cd_st c m := by
  rcases cd_q hq with rfl | rfl <;> rcases cd_q hm with rfl | rfl <;> simp only [cd_st0, cd_st1, cd_sw0, cd_sw1, cd_fw] at * <;> omega
theorem cd_ts {c m s : Nat} (hm : m < 2) (hs : s < 4) : cd_st (cd_ss c m s) m = s := by
  rcases cd_q hm with rfl | rfl <;> simp only [cd_st0, cd_st1, cd_ss0, cd_ss1] at * <;> omega
theorem cd_tn {c m s m' : Nat} (hm : m < 2) (hm' : m' < 2) (hn : m' ≠ m) (hs : s < 4) : cd_st (cd_ss c m s) m' = cd_st c m' := by
  rcases cd_q hm with rfl | rfl <;> rcases cd_q hm' with rfl | rfl <;> simp only [cd_st0, cd_st1, cd_ss0, cd_ss1] at * <;> omega
theorem cd_wt {c m s q : Nat} (hm : m < 2) (hq : q < 2) : cd_wd (cd_ss c m s) q = cd_wd c q := by
  rcases cd_q hm with rfl | rfl <;> rcases cd_q hq with rfl | rfl <;> simp only [cd_wd0, cd_wd1, cd_ss0, cd_ss1] at * <;> omega
theorem cd_sws {c q : Nat} (hq : q < 2) : cd_sw c q (cd_wd c q) = c := by
  rcases cd_q hq with rfl | rfl <;> simp only [cd_wd0, cd_wd1, cd_sw0, cd_sw1] at * <;> omega
theorem cd_sww {c q w w' : Nat} (hq : q < 2) (hw : cd_fw q w) : cd_sw (cd_sw c q w) q w' = cd_sw c q w' := by
  rcases cd_q hq with rfl | rfl <;> simp only [cd_sw0, cd_sw1, cd_fw] at * <;> omega
theorem cd_sss {c m : Nat} (hm : m < 2) : cd_ss c m (cd_st c m) = c := by
  rcases cd_q hm with rfl | rfl <;> simp only [cd_st0, cd_st1, cd_ss0, cd_ss1] at * <;> omega
theorem cd_sst {c m s s' : Nat} (hm : m < 2) (hs : s < 4) : cd_ss (cd_ss c m s) m s' = cd_ss c m s' := by
  rcases cd_q hm with rfl | rfl <;> simp only [cd_ss0, cd_ss1] at * <;> omega
theorem cd_cm {c m s q w : Nat} (hm : m < 2) (hq : q < 2) (hw : cd_fw q w) : cd_ss (cd_sw c q w) m s = cd_sw (cd_ss c m s) q w := by
  rcases cd_q hm with rfl | rfl <;> rcases cd_q hq with rfl | rfl <;> simp only [cd_ss0, cd_ss1, cd_sw0, cd_sw1, cd_fw] at * <;> omega
theorem cd_Vt {S K0 K1 c m : Nat} (h : cd_V S K0 K1 c) (hm : m < 2) : cd_st c m < S := by
  rcases cd_q hm with rfl | rfl
  · exact h.1
  · exact h.2.1
theorem cd_Vw {S K0 K1 c q : Nat} (h : cd_V S K0 K1 c) (hq : q < 2) : 1 ≤ cd_wd c q ∧ cd_wd c q < 2 ^ (cd_cp K0 K1 q + 1) := by
  rcases cd_q hq with rfl | rfl
  · exact ⟨h.2.2.1, h.2.2.2.1⟩
  · exact ⟨h.2.2.2.2.1, h.2.2.2.2.2⟩
theorem cd_mkV {S K0 K1 c : Nat} (a : ∀ m, m < 2 → cd_st c m < S) (b : ∀ q, q < 2 → 1 ≤ cd_wd c q ∧ cd_wd c q < 2 ^ (cd_cp K0 K1 q + 1)) : cd_V S K0 K1 c :=
  ⟨a 0 (by omega), a 1 (by omega), (b 0 (by omega)).1, (b 0 (by omega)).2, (b 1 (by omega)).1, (b 1 (by omega)).2⟩
theorem cd_let {c d m : Nat} (h : cd_le c d) (hm : m < 2) : cd_st c m = cd_st d m := by
  have := h.1
  rcases cd_q hm with rfl | rfl <;> simp only [cd_st0, cd_st1] at * <;> omega
theorem cd_lew {c d q : Nat} (h : cd_le c d) (hq : q < 2) : wk_sb (cd_wd c q) (cd_wd d q) = true := by
  rcases cd_q hq with rfl | rfl
  · exact h.2.1
  · exact h.2.2
theorem cd_mkle {c d : Nat} (a : ∀ m, m < 2 → cd_st c m = cd_st d m) (b : ∀ q, q < 2 → wk_sb (cd_wd c q) (cd_wd d q) = true) : cd_le c d := by
  have h0 := a 0 (by omega)
  have h1 := a 1 (by omega)
  simp only [cd_st0, cd_st1] at h0 h1
  exact ⟨by omega, b 0 (by omega), b 1 (by omega)⟩
theorem cd_fwc {K0 K1 q w S R : Nat} (hp : cd_Pm S K0 K1 R) (hq : q < 2) (hw : w < 2 ^ (cd_cp K0 K1 q + 1)) : cd_fw q w := by
  obtain ⟨-, -, -, h1, -, h2, -⟩ := hp
  rcases cd_q hq with rfl | rfl
  · rw [cd_cp0] at hw
    have := wk_pw K0 (by omega)
    exact ⟨by omega, Or.inl rfl⟩
  · rw [cd_cp1] at hw
    have := wk_pw2 K1 (by omega)
    exact ⟨by omega, Or.inr (by omega)⟩
theorem cd_cpb {K0 K1 q S R : Nat} (hp : cd_Pm S K0 K1 R) (hq : q < 2) : 1 ≤ cd_cp K0 K1 q ∧ cd_cp K0 K1 q < 4 ∧ (q = 1 → cd_cp K0 K1 q < 3) := by
  obtain ⟨-, -, h0, h1, h3, h2, -⟩ := hp
  rcases cd_q hq with rfl | rfl
  · rw [cd_cp0]; exact ⟨h0, by omega, fun z => absurd z (by decide)⟩
  · rw [cd_cp1]; exact ⟨h3, by omega, fun _ => by omega⟩
theorem cd_lt {S K0 K1 c R : Nat} (hp : cd_Pm S K0 K1 R) (h : cd_V S K0 K1 c) : c < 1536 ∧ 9 ≤ c := by
  have h1 := h.1
  have h2 := hp.2.1
  have h3 := h.2.2.1
  have h4 := h.2.2.2.2.1
  omega
theorem cd_refl {S K0 K1 c : Nat} (h : cd_V S K0 K1 c) : cd_le c c :=
  cd_mkle (fun _ _ => rfl) (fun q hq => wk_refl _ (cd_w16 hq) (cd_Vw h hq).1)
theorem cd_trans {a b c : Nat} (h : cd_le a b) (h' : cd_le b c) : cd_le a c :=
  cd_mkle (fun _ hm => (cd_let h hm).trans (cd_let h' hm)) (fun q hq => wk_trans _ (cd_w16 hq) _ (cd_w16 hq) (cd_lew h hq) _ (cd_w16 hq) (cd_lew h' hq))
theorem cd_ext {c d : Nat} (a : ∀ m, m < 2 → cd_st c m = cd_st d m) (b : ∀ q, q < 2 → cd_wd c q = cd_wd d q) : c = d := by
  have h0 := a 0 (by omega)
  have h1 := a 1 (by omega)
  have h2 := b 0 (by omega)
  have h3 := b 1 (by omega)
  simp only [cd_st0, cd_st1, cd_wd0, cd_wd1] at h0 h1 h2 h3
  omega
theorem cd_nle {S K0 K1 c d : Nat} (h : cd_V S K0 K1 d) (h' : cd_le c d) : c ≤ d := by
  have h0 := h'.1
  have h2 := wk_le _ (cd_w16 (c := c) (q := 0) (by omega)) _ (cd_w16 (c := d) (q := 0) (by omega)) (cd_Vw h (q := 0) (by omega)).1 (cd_lew h' (by omega))
  have h3 := wk_le _ (cd_w16 (c := c) (q := 1) (by omega)) _ (cd_w16 (c := d) (q := 1) (by omega)) (cd_Vw h (q := 1) (by omega)).1 (cd_lew h' (by omega))
  simp only [cd_wd0, cd_wd1] at h2 h3
  omega
/-! set a state, set a word -/
theorem cd_Vss {S K0 K1 c m s : Nat} (h : cd_V S K0 K1 c) (hm : m < 2) (hs : s < S) (h4 : s < 4) : cd_V S K0 K1 (cd_ss c m s) := by
  refine cd_mkV (fun m' hm' => ?_) (fun q hq => ?_)
  · by_cases e : m' = m
    · rw [e, cd_ts hm h4]; exact hs
    · rw [cd_tn hm hm' e h4]; exact cd_Vt h hm'
  · rw [cd_wt hm hq]; exact cd_Vw h hq
theorem cd_Vsw {S K0 K1 c q w : Nat} (h : cd_V S K0 K1 c) (hq : q < 2) (hf : cd_fw q w) (h1 : 1 ≤ w) (h2 : w < 2 ^ (cd_cp K0 K1 q + 1)) : cd_V S K0 K1 (cd_sw c q w) := by
  refine cd_mkV (fun m' hm' => ?_) (fun q' hq' => ?_)
  · rw [cd_tw hq hm' hf]; exact cd_Vt h hm'
  · by_cases e : q' = q
    · rw [e, cd_ws hq hf]; exact ⟨h1, h2⟩
    · rw [cd_wn hq hq' e hf]; exact cd_Vw h hq'
theorem cd_less {c d m s : Nat} (h : cd_le c d) (hm : m < 2) (h4 : s < 4) : cd_le (cd_ss c m s) (cd_ss d m s) := by
  refine cd_mkle (fun m' hm' => ?_) (fun q hq => ?_)
  · by_cases e : m' = m
    · rw [e, cd_ts hm h4, cd_ts hm h4]
    · rw [cd_tn hm hm' e h4, cd_tn hm hm' e h4]; exact cd_let h hm'
  · rw [cd_wt hm hq, cd_wt hm hq]; exact cd_lew h hq
theorem cd_lesw {c d q w w' : Nat} (h : cd_le c d) (hq : q < 2) (hf : cd_fw q w) (hf' : cd_fw q w') (hb : wk_sb w w' = true) : cd_le (cd_sw c q w) (cd_sw d q w') := by
  refine cd_mkle (fun m' hm' => ?_) (fun q' hq' => ?_)
  · rw [cd_tw hq hm' hf, cd_tw hq hm' hf']; exact cd_let h hm'
  · by_cases e : q' = q
    · rw [e, cd_ws hq hf, cd_ws hq hf']; exact hb
    · rw [cd_wn hq hq' e hf, cd_wn hq hq' e hf']; exact cd_lew h hq'
/-! a loss -/
def cd_ls (c q i : Nat) : Nat := cd_sw c q (wk_wo (cd_wd c q) i)
theorem cd_lsf {c q i : Nat} (hq : q < 2) (hi : i < wk_len (cd_wd c q)) : cd_fw q (wk_wo (cd_wd c q) i) := by
  have h := wk_wos (cd_w16 hq) hi
  have h' := cd_fwd (c := c) hq
  exact ⟨by have := h'.1; omega, by have := h'.2; omega⟩
theorem cd_lsV {S K0 K1 c q i : Nat} (h : cd_V S K0 K1 c) (hq : q < 2) (hi : i < wk_len (cd_wd c q)) : cd_V S K0 K1 (cd_ls c q i) := by
  have h1 := wk_wos (cd_w16 hq) hi
  have h2 := (cd_Vw h hq).2
  exact cd_Vsw h hq (cd_lsf hq hi) h1.1 (by omega)
theorem cd_lsle {S K0 K1 c q i : Nat} (h : cd_V S K0 K1 c) (hq : q < 2) (hi : i < wk_len (cd_wd c q)) : cd_le (cd_ls c q i) c := by
  have e := cd_lesw (cd_refl h) hq (cd_lsf hq hi) (cd_fwd (c := c) hq) (wk_wos (cd_w16 hq) hi).2.2
  rw [cd_sws hq] at e
  exact e
theorem cd_lslt {c q i : Nat} (hq : q < 2) (hi : i < wk_len (cd_wd c q)) : cd_ls c q i < c := by
  have h := (wk_wos (cd_w16 hq) hi).2.1
  have e := cd_sws (c := c) hq
  unfold cd_ls
  rcases cd_q hq with rfl | rfl <;> simp only [cd_sw0, cd_sw1] at * <;> omega
theorem cd_lsex {S K0 K1 c d : Nat} (h : cd_V S K0 K1 c) (hd : cd_le d c) (hn : d ≠ c) : ∃ q i, q < 2 ∧ i < wk_len (cd_wd c q) ∧ cd_le d (cd_ls c q i) := by
  have key : ∀ q, q < 2 → cd_wd d q ≠ cd_wd c q → ∃ q i, q < 2 ∧ i < wk_len (cd_wd c q) ∧ cd_le d (cd_ls c q i) := by
    intro q hq hne
    obtain ⟨i, hi, hs⟩ := wk_drop (cd_w16 hq) (cd_w16 hq) (cd_Vw h hq).1 (cd_lew hd hq) hne
    refine ⟨q, i, hq, hi, ?_⟩
    have e := cd_lesw hd hq (cd_fwd (c := d) hq) (cd_lsf hq hi) hs
    rw [cd_sws hq] at e
    exact e
  by_cases h0 : cd_wd d 0 = cd_wd c 0
  · by_cases h1 : cd_wd d 1 = cd_wd c 1
    · refine absurd (cd_ext (fun m hm => cd_let hd hm) (fun q hq => ?_)) hn
      rcases cd_q hq with rfl | rfl
      · exact h0
      · exact h1
    · exact key 1 (by omega) h1
  · exact key 0 (by omega) h0
end
section
/-! rules: machine m, from f, to t, operation o -/
def ru_q (o : Nat) : Nat := (o - 1) / 2 % 2
def ru_l (o : Nat) : Nat := (o - 1) % 2
def ru_en (m f o c : Nat) : Prop := cd_st c m = f ∧ (o < 5 ∨ (2 ≤ cd_wd c (ru_q o) ∧ wk_hd (cd_wd c (ru_q o)) 0 = ru_l o))
def ru_fr (K0 K1 m t o c : Nat) : Nat :=
  if o = 0 then cd_ss c m t
  else if o < 5 then (if cd_cp K0 K1 (ru_q o) ≤ wk_len (cd_wd c (ru_q o)) then cd_ss c m t else cd_sw (cd_ss c m t) (ru_q o) (2 * cd_wd c (ru_q o) + ru_l o))
  else cd_sw (cd_ss c m t) (ru_q o) (wk_wo (cd_wd c (ru_q o)) 0)
def ru_mp (K0 K1 m f t o e : Nat) : Nat :=
  if cd_st e m = t then
    (if o = 0 then cd_ss e m f
     else if o < 5 then (if 1 < cd_wd e (ru_q o) ∧ cd_wd e (ru_q o) % 2 = ru_l o then cd_sw (cd_ss e m f) (ru_q o) (cd_wd e (ru_q o) / 2) else cd_ss e m f)
     else if cd_cp K0 K1 (ru_q o) ≤ wk_len (cd_wd e (ru_q o)) then 0 else cd_sw (cd_ss e m f) (ru_q o) (wk_pp (ru_l o) (cd_wd e (ru_q o))))
  else 0
def ru_ok (S m f t o : Nat) : Prop := m < 2 ∧ f < S ∧ t < S ∧ o ≤ 8
theorem ru_q2 (o : Nat) : ru_q o < 2 := Nat.mod_lt _ (by decide)
theorem ru_l2 (o : Nat) : ru_l o < 2 := Nat.mod_lt _ (by decide)
theorem ru_nf {S K0 K1 R c q : Nat} (hp : cd_Pm S K0 K1 R) (hq : q < 2) (h : ¬ cd_cp K0 K1 q ≤ wk_len (cd_wd c q)) : cd_wd c q < 2 ^ cd_cp K0 K1 q ∧ cd_wd c q < 8 := by
  obtain ⟨h1, h2, h3⟩ := cd_cpb hp hq
  rw [wk_full _ (cd_w16 hq) _ h2 h1] at h
  have h4 : 2 ^ cd_cp K0 K1 q ≤ 2 ^ 3 := Nat.pow_le_pow_right (by decide) (by omega)
  exact ⟨by omega, by omega⟩
theorem ru_V {S K0 K1 R m f t o c : Nat} (hp : cd_Pm S K0 K1 R) (hr : ru_ok S m f t o) (h : cd_V S K0 K1 c) (he : ru_en m f o c) : cd_V S K0 K1 (ru_fr K0 K1 m t o c) := by
  obtain ⟨hm, hf, ht, ho⟩ := hr
  have h3 := hp.2.1
  have hV := cd_Vss h hm ht (by omega)
  have hq := ru_q2 o
  unfold ru_fr
  split
  · exact hV
  · split
    · split
      · exact hV
      · rename_i hn
        have hl := ru_l2 o
        have hw := cd_Vw h hq
        have h5 : 2 * cd_wd c (ru_q o) + ru_l o < 2 ^ (cd_cp K0 K1 (ru_q o) + 1) := by
          have := (ru_nf hp hq hn).1
          rw [Nat.pow_succ]; omega
        exact cd_Vsw hV hq (cd_fwc hp hq h5) (by omega) h5
    · have he2 : 2 ≤ cd_wd c (ru_q o) := by
        rcases he.2 with z | z
        · omega
        · exact z.1
      have h0 : 0 < wk_len (cd_wd c (ru_q o)) := by
        have := wk_q3 _ (cd_w16 hq) he2
        omega
      have h1 := wk_wos (cd_w16 hq) h0
      have h2 := (cd_Vw h hq).2
      exact cd_Vsw hV hq (cd_lsf hq h0) h1.1 (by omega)
theorem ru_sound {S K0 K1 R m f t o e : Nat} (hp : cd_Pm S K0 K1 R) (hr : ru_ok S m f t o) (h : cd_V S K0 K1 e) (hn : ru_mp K0 K1 m f t o e ≠ 0) :
    cd_V S K0 K1 (ru_mp K0 K1 m f t o e) ∧ ru_en m f o (ru_mp K0 K1 m f t o e) ∧ cd_le e (ru_fr K0 K1 m t o (ru_mp K0 K1 m f t o e)) := by
  obtain ⟨hm, hf, ht, ho⟩ := hr
  have h3 := hp.2.1
  have hq := ru_q2 o
  have hl := ru_l2 o
  have hV := cd_Vss h hm hf (by omega)
  have hw := cd_Vw h hq
  have f4 : f < 4 := by omega
  by_cases hs : cd_st e m = t
  · have back : cd_ss (cd_ss e m f) m t = e := by rw [cd_sst hm f4, ← hs, cd_sss hm]
    by_cases o0 : o = 0
    · have e1 : ru_mp K0 K1 m f t o e = cd_ss e m f := by unfold ru_mp; rw [if_pos hs, if_pos o0]
      have e2 : ru_fr K0 K1 m t o (cd_ss e m f) = e := by unfold ru_fr; rw [if_pos o0, back]
      rw [e1, e2]
      exact ⟨hV, ⟨cd_ts hm f4, Or.inl (by omega)⟩, cd_refl h⟩
    · by_cases o5 : o < 5
      · by_cases hc : 1 < cd_wd e (ru_q o) ∧ cd_wd e (ru_q o) % 2 = ru_l o
        · have e1 : ru_mp K0 K1 m f t o e = cd_sw (cd_ss e m f) (ru_q o) (cd_wd e (ru_q o) / 2) := by
            unfold ru_mp; rw [if_pos hs, if_neg o0, if_pos o5, if_pos hc]
          have hfw : cd_fw (ru_q o) (cd_wd e (ru_q o) / 2) := cd_fwc hp hq (by omega)
          have ew : cd_wd (cd_sw (cd_ss e m f) (ru_q o) (cd_wd e (ru_q o) / 2)) (ru_q o) = cd_wd e (ru_q o) / 2 := cd_ws hq hfw
          have nf : ¬ cd_cp K0 K1 (ru_q o) ≤ wk_len (cd_wd e (ru_q o) / 2) := by
            obtain ⟨c1, c2, -⟩ := cd_cpb hp hq
            rw [wk_full _ hfw.1 _ c2 c1]
            have := hw.2
            rw [Nat.pow_succ] at this
            omega
          have e2 : ru_fr K0 K1 m t o (cd_sw (cd_ss e m f) (ru_q o) (cd_wd e (ru_q o) / 2)) = e := by
            unfold ru_fr
            rw [if_neg o0, if_pos o5, ew, if_neg nf, cd_cm hm hq hfw, back, cd_sww hq hfw, show 2 * (cd_wd e (ru_q o) / 2) + ru_l o = cd_wd e (ru_q o) from by omega, cd_sws hq]
          rw [e1, e2]
          exact ⟨cd_Vsw hV hq hfw (by omega) (by omega), ⟨by rw [cd_tw hq hm hfw, cd_ts hm f4], Or.inl o5⟩, cd_refl h⟩
        · have e1 : ru_mp K0 K1 m f t o e = cd_ss e m f := by
            unfold ru_mp; rw [if_pos hs, if_neg o0, if_pos o5, if_neg hc]
          rw [e1]
          refine ⟨hV, ⟨cd_ts hm f4, Or.inl o5⟩, ?_⟩
          have ew : cd_wd (cd_ss e m f) (ru_q o) = cd_wd e (ru_q o) := cd_wt hm hq
          unfold ru_fr
          rw [if_neg o0, if_pos o5, ew, back]
          split
          · exact cd_refl h
          · rename_i nf
            have b8 := (ru_nf hp hq nf)
            have h5 : 2 * cd_wd e (ru_q o) + ru_l o < 2 ^ (cd_cp K0 K1 (ru_q o) + 1) := by
              have := b8.1
              rw [Nat.pow_succ]; omega
            have z := cd_lesw (cd_refl h) hq (cd_fwd (c := e) hq) (cd_fwc hp hq h5) (wk_p4 _ b8.2 _ hl hw.1)
            rw [cd_sws hq] at z
            exact z
      · by_cases fu : cd_cp K0 K1 (ru_q o) ≤ wk_len (cd_wd e (ru_q o))
        · exact absurd (by unfold ru_mp; rw [if_pos hs, if_neg o0, if_neg o5, if_pos fu]) hn
        · have e1 : ru_mp K0 K1 m f t o e = cd_sw (cd_ss e m f) (ru_q o) (wk_pp (ru_l o) (cd_wd e (ru_q o))) := by
            unfold ru_mp; rw [if_pos hs, if_neg o0, if_neg o5, if_neg fu]
          have b8 := (ru_nf hp hq fu).2
          obtain ⟨p1, p2, p3, p4, p5⟩ := wk_q2 _ b8 _ hl hw.1
          have hb : wk_pp (ru_l o) (cd_wd e (ru_q o)) < 2 ^ (cd_cp K0 K1 (ru_q o) + 1) := by
            rw [wk_fit _ p3 _ (cd_cpb hp hq).2.1 (by omega)]; omega
          have hfw := cd_fwc hp hq hb
          have ew : cd_wd (cd_sw (cd_ss e m f) (ru_q o) (wk_pp (ru_l o) (cd_wd e (ru_q o)))) (ru_q o) = wk_pp (ru_l o) (cd_wd e (ru_q o)) := cd_ws hq hfw
          have e2 : ru_fr K0 K1 m t o (cd_sw (cd_ss e m f) (ru_q o) (wk_pp (ru_l o) (cd_wd e (ru_q o)))) = e := by
            unfold ru_fr
            rw [if_neg o0, if_neg o5, ew, p1, cd_cm hm hq hfw, back, cd_sww hq hfw, cd_sws hq]
          rw [e1, e2]
          refine ⟨cd_Vsw hV hq hfw (by omega) hb, ⟨by rw [cd_tw hq hm hfw, cd_ts hm f4], Or.inr ?_⟩, cd_refl h⟩
          rw [ew]
          exact ⟨p4, p2⟩
  · exact absurd (by unfold ru_mp; rw [if_neg hs]) hn
theorem ru_A {m f t q e d y v : Nat} (hm : m < 2) (f4 : f < 4) (t4 : t < 4) (hq : q < 2) (hfy : cd_fw q y) (hfv : cd_fw q v) (hs : cd_st d m = f) (h : cd_le e (cd_sw (cd_ss d m t) q y)) (hv : wk_sb v (cd_wd d q) = true) : cd_le (cd_sw (cd_ss e m f) q v) d := by
  have z := cd_less h hm f4
  rw [cd_cm hm hq hfy, cd_sst hm t4, ← hs, cd_sss hm] at z
  have z2 := cd_lesw z hq hfv (cd_fwd (c := d) hq) hv
  rw [cd_sww hq hfy, cd_sws hq, hs] at z2
  exact z2
theorem ru_comp {S K0 K1 R m f t o e d : Nat} (hp : cd_Pm S K0 K1 R) (hr : ru_ok S m f t o) (h : cd_V S K0 K1 e) (hd : cd_V S K0 K1 d) (he : ru_en m f o d) (hl : cd_le e (ru_fr K0 K1 m t o d)) :
    ru_mp K0 K1 m f t o e ≠ 0 ∧ cd_le (ru_mp K0 K1 m f t o e) d := by
  have hn : ∀ p, ru_mp K0 K1 m f t o e = p → cd_le p d → ru_mp K0 K1 m f t o e ≠ 0 ∧ cd_le (ru_mp K0 K1 m f t o e) d := by
    intro p e1 z
    rw [e1]
    refine ⟨fun z0 => ?_, z⟩
    have a := wk_pos _ (cd_w16 (c := p) (q := 1) (by omega)) _ (cd_w16 (c := d) (q := 1) (by omega)) (cd_lew z (by omega))
    rw [z0] at a
    exact absurd a (by decide)
  obtain ⟨hm, hf, ht, ho⟩ := hr
  have h3 := hp.2.1
  have hq := ru_q2 o
  have hl2 := ru_l2 o
  have f4 : f < 4 := by omega
  have t4 : t < 4 := by omega
  have hw := cd_Vw h hq
  have hwd := cd_Vw hd hq
  obtain ⟨hs, hg⟩ := he
  by_cases o0 : o = 0
  · have e2 : ru_fr K0 K1 m t o d = cd_ss d m t := by unfold ru_fr; rw [if_pos o0]
    rw [e2] at hl
    have ht2 : cd_st e m = t := by rw [cd_let hl hm, cd_ts hm t4]
    refine hn (cd_ss e m f) (by unfold ru_mp; rw [if_pos ht2, if_pos o0]) ?_
    have z := cd_less hl hm f4
    rw [cd_sst hm t4, ← hs, cd_sss hm] at z
    rw [← hs]
    exact z
  · have fin : ∀ y v, ru_fr K0 K1 m t o d = cd_sw (cd_ss d m t) (ru_q o) y → cd_fw (ru_q o) y → cd_fw (ru_q o) v → wk_sb v (cd_wd d (ru_q o)) = true → cd_le (cd_sw (cd_ss e m f) (ru_q o) v) d := by
      intro y v e2 hy hv hb
      rw [e2] at hl
      exact ru_A hm f4 t4 hq hy hv hs hl hb
    have sub : ∀ y, ru_fr K0 K1 m t o d = cd_sw (cd_ss d m t) (ru_q o) y → cd_fw (ru_q o) y → wk_sb (cd_wd e (ru_q o)) y = true ∧ cd_st e m = t := by
      intro y e2 hy
      rw [e2] at hl
      have a := cd_lew hl hq
      rw [cd_ws hq hy] at a
      have b := cd_let hl hm
      rw [cd_tw hq hm hy, cd_ts hm t4] at b
      exact ⟨a, b⟩
    have same : cd_sw (cd_ss e m f) (ru_q o) (cd_wd e (ru_q o)) = cd_ss e m f := by
      have z := cd_sws (c := cd_ss e m f) hq
      rw [cd_wt hm hq] at z
      exact z
    by_cases o5 : o < 5
    · have cons : ∀ y, ru_fr K0 K1 m t o d = cd_sw (cd_ss d m t) (ru_q o) y → cd_fw (ru_q o) y →
          (1 < cd_wd e (ru_q o) ∧ cd_wd e (ru_q o) % 2 = ru_l o → wk_sb (cd_wd e (ru_q o) / 2) (cd_wd d (ru_q o)) = true) →
          (¬ (1 < cd_wd e (ru_q o) ∧ cd_wd e (ru_q o) % 2 = ru_l o) → wk_sb (cd_wd e (ru_q o)) (cd_wd d (ru_q o)) = true) →
          ru_mp K0 K1 m f t o e ≠ 0 ∧ cd_le (ru_mp K0 K1 m f t o e) d := by
        intro y e2 hy c1 c2
        have hs2 := (sub y e2 hy).2
        by_cases hc : 1 < cd_wd e (ru_q o) ∧ cd_wd e (ru_q o) % 2 = ru_l o
        · refine hn (cd_sw (cd_ss e m f) (ru_q o) (cd_wd e (ru_q o) / 2)) (by unfold ru_mp; rw [if_pos hs2, if_neg o0, if_pos o5, if_pos hc]) ?_
          exact fin y _ e2 hy (cd_fwc hp hq (by omega)) (c1 hc)
        · refine hn (cd_ss e m f) (by unfold ru_mp; rw [if_pos hs2, if_neg o0, if_pos o5, if_neg hc]) ?_
          have z := fin y _ e2 hy (cd_fwd (c := e) hq) (c2 hc)
          rw [same] at z
          exact z
      by_cases fu : cd_cp K0 K1 (ru_q o) ≤ wk_len (cd_wd d (ru_q o))
      · have e2 : ru_fr K0 K1 m t o d = cd_sw (cd_ss d m t) (ru_q o) (cd_wd d (ru_q o)) := by
          have z := cd_sws (c := cd_ss d m t) hq
          rw [cd_wt hm hq] at z
          unfold ru_fr
          rw [if_neg o0, if_pos o5, if_pos fu, z]
        have a := (sub _ e2 (cd_fwd (c := d) hq)).1
        exact cons _ e2 (cd_fwd (c := d) hq) (fun hc => wk_trans _ (by have := cd_w16 (c := e) hq; omega) _ (cd_w16 hq) (wk_p3 _ (cd_w16 hq) hc.1) _ (cd_w16 hq) a) (fun _ => a)
      · have e2 : ru_fr K0 K1 m t o d = cd_sw (cd_ss d m t) (ru_q o) (2 * cd_wd d (ru_q o) + ru_l o) := by
          unfold ru_fr
          rw [if_neg o0, if_pos o5, if_neg fu]
        have b8 := ru_nf hp hq fu
        have h5 : 2 * cd_wd d (ru_q o) + ru_l o < 2 ^ (cd_cp K0 K1 (ru_q o) + 1) := by
          have := b8.1
          rw [Nat.pow_succ]; omega
        have hy := cd_fwc hp hq h5
        have a := (sub _ e2 hy).1
        exact cons _ e2 hy (fun hc => wk_p1 _ (cd_w16 hq) _ b8.2 _ hl2 hwd.1 hc.1 hc.2 a) (fun hc => wk_p2 _ (cd_w16 hq) _ b8.2 _ hl2 hwd.1 hc a)
    · obtain ⟨g1, g2⟩ : 2 ≤ cd_wd d (ru_q o) ∧ wk_hd (cd_wd d (ru_q o)) 0 = ru_l o := by
        rcases hg with z | z
        · exact absurd z o5
        · exact z
      have e2 : ru_fr K0 K1 m t o d = cd_sw (cd_ss d m t) (ru_q o) (wk_wo (cd_wd d (ru_q o)) 0) := by
        unfold ru_fr
        rw [if_neg o0, if_neg o5]
      obtain ⟨q1, q2, q3, q4⟩ := wk_q3 _ (cd_w16 hq) g1
      have hy : cd_fw (ru_q o) (wk_wo (cd_wd d (ru_q o)) 0) := cd_lsf hq (by omega)
      obtain ⟨a, hs2⟩ := sub _ e2 hy
      have le8 := wk_le _ (cd_w16 hq) _ hy.1 q4 a
      have ll := (wk_lsb _ (cd_w16 hq) _ hy.1 a q4).1
      have cpl : wk_len (cd_wd d (ru_q o)) ≤ cd_cp K0 K1 (ru_q o) := (wk_fit _ (cd_w16 hq) _ (cd_cpb hp hq).2.1 hwd.1).mp hwd.2
      have fu : ¬ cd_cp K0 K1 (ru_q o) ≤ wk_len (cd_wd e (ru_q o)) := by omega
      refine hn (cd_sw (cd_ss e m f) (ru_q o) (wk_pp (ru_l o) (cd_wd e (ru_q o)))) (by unfold ru_mp; rw [if_pos hs2, if_neg o0, if_neg o5, if_neg fu]) ?_
      obtain ⟨p1, p2, p3, p4, p5⟩ := wk_q2 (cd_wd e (ru_q o)) (by omega) _ hl2 hw.1
      have hb : wk_pp (ru_l o) (cd_wd e (ru_q o)) < 2 ^ (cd_cp K0 K1 (ru_q o) + 1) := by
        rw [wk_fit _ p3 _ (cd_cpb hp hq).2.1 (by omega)]; omega
      have s1 := wk_q1 _ (by omega) _ q3 _ hl2 hw.1 q4 a
      rw [← g2] at s1
      rw [q1] at s1
      rw [← g2]
      exact fin _ _ e2 hy (by rw [g2]; exact cd_fwc hp hq hb) s1
end
section
/-! which codes cover the target with at most k firings, losses free -/
def rc_R (S K0 K1 n g : Nat) (rm rf rt ro : Nat → Nat) : Nat → Nat → Prop
  | 0, c => cd_le g c
  | k + 1, c => rc_R S K0 K1 n g rm rf rt ro k c ∨ ∃ d r, cd_V S K0 K1 d ∧ cd_le d c ∧ r < n ∧ ru_en (rm r) (rf r) (ro r) d ∧ rc_R S K0 K1 n g rm rf rt ro k (ru_fr K0 K1 (rm r) (rt r) (ro r) d)
def rc_S (R S K0 K1 n g : Nat) (rm rf rt ro : Nat → Nat) : Prop :=
  cd_Pm S K0 K1 R ∧ n ≤ 12 ∧ (∀ j, j < n → ru_ok S (rm j) (rf j) (rt j) (ro j)) ∧ cd_V S K0 K1 g
section
variable {R S K0 K1 n g : Nat} {rm rf rt ro : Nat → Nat}
theorem rc_up {k c d : Nat} (h : cd_le c d) (hk : rc_R S K0 K1 n g rm rf rt ro k c) : rc_R S K0 K1 n g rm rf rt ro k d := by
  induction k with
  | zero => exact cd_trans hk h
  | succ k ih =>
    rcases hk with z | ⟨x, r, h1, h2, h3⟩
    · exact Or.inl (ih z)
    · exact Or.inr ⟨x, r, h1, cd_trans h2 h, h3⟩
theorem rc_mono {j k c : Nat} (h : j ≤ k) (hj : rc_R S K0 K1 n g rm rf rt ro j c) : rc_R S K0 K1 n g rm rf rt ro k c := by
  induction k with
  | zero =>
    have e : j = 0 := by omega
    rw [e] at hj
    exact hj
  | succ k ih =>
    by_cases e : j = k + 1
    · rw [e] at hj
      exact hj
    · exact Or.inl (ih (by omega))
theorem rc_fire {k c r : Nat} (hV : cd_V S K0 K1 c) (hr : r < n) (he : ru_en (rm r) (rf r) (ro r) c) (h : rc_R S K0 K1 n g rm rf rt ro k (ru_fr K0 K1 (rm r) (rt r) (ro r) c)) : rc_R S K0 K1 n g rm rf rt ro (k + 1) c :=
  Or.inr ⟨c, r, hV, cd_refl hV, hr, he, h⟩
theorem rc_g (hs : rc_S R S K0 K1 n g rm rf rt ro) : rc_R S K0 K1 n g rm rf rt ro 0 g := cd_refl hs.2.2.2
end
/-! the moves of the reference -/
def bf_E (S K0 K1 n g : Nat) (rm rf rt ro : Nat → Nat) (c mv d k : Nat) : Prop :=
  (mv < n ∧ ru_en (rm mv) (rf mv) (ro mv) c ∧ d = ru_fr K0 K1 (rm mv) (rt mv) (ro mv) c ∧ k = 1) ∨
  (16 ≤ mv ∧ mv < 24 ∧ (mv - 16) % 4 < wk_len (cd_wd c ((mv - 16) / 4)) ∧ d = cd_ls c ((mv - 16) / 4) ((mv - 16) % 4) ∧ k = 0)
def bf_S (S K0 K1 n g : Nat) (rm rf rt ro : Nat → Nat) (ds : Nat → Nat) : Prop := ∀ c, c < 1536 →
  ds c ≤ 1000000 ∧ (¬ cd_V S K0 K1 c → ds c = 1000000) ∧ (cd_V S K0 K1 c → ds c < 1000000 → rc_R S K0 K1 n g rm rf rt ro (ds c) c) ∧ (cd_V S K0 K1 c → cd_le g c → ds c = 0)
def bf_F (S K0 K1 n g : Nat) (rm rf rt ro : Nat → Nat) (ds : Nat → Nat) (c : Nat) : Prop := cd_V S K0 K1 c → ∀ k, rc_R S K0 K1 n g rm rf rt ro k c → ds c ≤ k
def bf_X (S K0 K1 n g : Nat) (rm rf rt ro : Nat → Nat) (d0 ds : Nat → Nat) : Prop :=
  (∀ c, c < 1536 → ds c ≤ d0 c) ∧ (∀ c, c < 1536 → cd_V S K0 K1 c → ∀ mv d k, bf_E S K0 K1 n g rm rf rt ro c mv d k → ds c ≤ d0 d + k)
def bf_OK (S K0 K1 n g : Nat) (rm rf rt ro : Nat → Nat) (ds : Nat → Nat) : Prop := bf_S S K0 K1 n g rm rf rt ro ds ∧ ∀ c, c < 1536 → bf_F S K0 K1 n g rm rf rt ro ds c
section
variable {R S K0 K1 n g : Nat} {rm rf rt ro : Nat → Nat}
theorem bf_q {mv : Nat} (h : mv < 24) : (mv - 16) / 4 < 2 := by omega
theorem bf_EV {c mv d k : Nat} (hs : rc_S R S K0 K1 n g rm rf rt ro) (hV : cd_V S K0 K1 c) (h : bf_E S K0 K1 n g rm rf rt ro c mv d k) : cd_V S K0 K1 d := by
  rcases h with ⟨h1, h2, rfl, -⟩ | ⟨h1, h2, h3, rfl, -⟩
  · exact ru_V hs.1 (hs.2.2.1 mv h1) hV h2
  · exact cd_lsV hV (bf_q h2) h3
theorem bf_ER {c mv d k j : Nat} (hV : cd_V S K0 K1 c) (h : bf_E S K0 K1 n g rm rf rt ro c mv d k) (hj : rc_R S K0 K1 n g rm rf rt ro j d) : rc_R S K0 K1 n g rm rf rt ro (j + k) c := by
  rcases h with ⟨h1, h2, rfl, rfl⟩ | ⟨h1, h2, h3, rfl, rfl⟩
  · exact rc_fire hV h1 h2 hj
  · exact rc_up (cd_lsle hV (bf_q h2) h3) hj
theorem bf_pass {d0 ds : Nat → Nat} (hs : rc_S R S K0 K1 n g rm rf rt ro) (h : bf_S S K0 K1 n g rm rf rt ro ds) (hx : bf_X S K0 K1 n g rm rf rt ro d0 ds)
    (A : ∀ c, c < 1536 → bf_F S K0 K1 n g rm rf rt ro ds c → bf_F S K0 K1 n g rm rf rt ro d0 c) : ∀ c, c < 1536 → bf_F S K0 K1 n g rm rf rt ro d0 c := by
  have key : ∀ k, ∀ c, cd_V S K0 K1 c → rc_R S K0 K1 n g rm rf rt ro k c → d0 c ≤ k := by
    intro k
    induction k using Nat.strongRecOn with
    | ind k ihk =>
      intro c
      induction c using Nat.strongRecOn with
      | ind c ihc =>
        intro hV hk
        have hc := (cd_lt hs.1 hV).1
        by_cases z : ∃ j, j < k ∧ rc_R S K0 K1 n g rm rf rt ro j c
        · obtain ⟨j, hj, hr⟩ := z
          have := ihk j hj c hV hr
          omega
        · refine A c hc (fun _ k' hk' => ?_) hV k hk
          have hkk : k ≤ k' := by
            rcases Nat.lt_or_ge k' k with q | q
            · exact absurd ⟨k', q, hk'⟩ z
            · exact q
          refine Nat.le_trans ?_ hkk
          cases k with
          | zero =>
            have := (h c hc).2.2.2 hV hk
            omega
          | succ j =>
            rcases hk with y | ⟨d, r, h1, h2, h3, h4, h5⟩
            · exact absurd ⟨j, by omega, y⟩ z
            · by_cases e : d = c
              · subst e
                have a := hx.2 d hc hV r _ 1 (Or.inl ⟨h3, h4, rfl, rfl⟩)
                have b := ihk j (by omega) _ (ru_V hs.1 (hs.2.2.1 r h3) hV h4) h5
                omega
              · obtain ⟨q, i, hq, hi, hle⟩ := cd_lsex hV h2 e
                have i3 := wk_len3 _ (cd_w16 (c := c) hq)
                have e1 : (16 + 4 * q + i - 16) / 4 = q := by omega
                have e2 : (16 + 4 * q + i - 16) % 4 = i := by omega
                have a := hx.2 c hc hV (16 + 4 * q + i) (cd_ls c q i) 0 (Or.inr ⟨by omega, by omega, by rw [e1, e2]; exact hi, by rw [e1, e2], rfl⟩)
                have b := ihc (cd_ls c q i) (cd_lslt hq hi) (cd_lsV hV hq hi) (Or.inr ⟨d, r, h1, hle, h3, h4, h5⟩)
                omega
  intro c hc hV k hk
  exact key k c hV hk
theorem bf_Xc {d0 ds : Nat → Nat} {c : Nat} (hx : bf_X S K0 K1 n g rm rf rt ro d0 ds) (hc : c < 1536) (h : bf_F S K0 K1 n g rm rf rt ro d0 c) : bf_F S K0 K1 n g rm rf rt ro ds c := by
  intro hV k hk
  have := h hV k hk
  have := hx.1 c hc
  omega
end
/-! counting (rows of a worked proof, renamed) -/
noncomputable def ct_b (P : Prop) : Nat := @ite Nat P (Classical.propDecidable P) 1 0
theorem ct_bt {P : Prop} (h : P) : ct_b P = 1 := by unfold ct_b; rw [if_pos h]
theorem ct_bf {P : Prop} (h : ¬ P) : ct_b P = 0 := by unfold ct_b; rw [if_neg h]
theorem ct_bl (P : Prop) : ct_b P ≤ 1 := by
  rcases Classical.em P with h | h
  · rw [ct_bt h]; omega
  · rw [ct_bf h]; omega
theorem ct_bm {P Q : Prop} (h : P → Q) : ct_b P ≤ ct_b Q := by
  rcases Classical.em P with hp | hp
  · rw [ct_bt hp, ct_bt (h hp)]; omega
  · rw [ct_bf hp]; omega
noncomputable def ct_n (P : Nat → Prop) : Nat → Nat
  | 0 => 0
  | k + 1 => ct_n P k + ct_b (P k)
theorem ct_mono {P Q : Nat → Prop} : ∀ {N : Nat}, (∀ k, k < N → P k → Q k) → ct_n P N ≤ ct_n Q N
  | 0, _ => Nat.le_refl _
  | N + 1, h => by
    have a := ct_mono (P := P) (Q := Q) (N := N) (fun k hk => h k (by omega))
    have b := ct_bm (h N (by omega))
    simp only [ct_n]; omega
theorem ct_lt {P Q : Nat → Prop} {a : Nat} (hp : ¬ P a) (hq : Q a) : ∀ {N : Nat}, (∀ k, k < N → P k → Q k) → a < N → ct_n P N < ct_n Q N
  | 0, _, h => by omega
  | N + 1, h, ha => by
    simp only [ct_n]
    rcases Nat.lt_or_ge a N with z | z
    · have x := ct_lt hp hq (N := N) (fun k hk => h k (by omega)) z
      have b := ct_bm (h N (by omega))
      omega
    · have e : a = N := by omega
      subst e
      have x := ct_mono (P := P) (Q := Q) (N := a) (fun k hk => h k (by omega))
      rw [ct_bt hq, ct_bf hp]; omega
theorem ct_le (P : Nat → Prop) : ∀ N, ct_n P N ≤ N
  | 0 => Nat.le_refl _
  | N + 1 => by have := ct_le P N; have := ct_bl (P N); simp only [ct_n]; omega
theorem ct_0 {P : Nat → Prop} : ∀ {N : Nat}, ct_n P N = 0 → ∀ k, k < N → ¬ P k
  | 0, _, k, hk => by omega
  | N + 1, h, k, hk => by
    simp only [ct_n] at h
    rcases Nat.lt_or_ge k N with z | z
    · exact ct_0 (N := N) (by omega) k z
    · have e : k = N := by omega
      subst e
      intro hp
      rw [ct_bt hp] at h
      omega
section
variable {R S K0 K1 n g : Nat} {rm rf rt ro : Nat → Nat}
/-- one pass: the number of codes that aren't final falls; if nothing changed, all are final -/
theorem bf_count {d0 ds : Nat → Nat} (hs : rc_S R S K0 K1 n g rm rf rt ro) (h : bf_S S K0 K1 n g rm rf rt ro ds) (hx : bf_X S K0 K1 n g rm rf rt ro d0 ds) :
    (∀ c, c < 1536 → bf_F S K0 K1 n g rm rf rt ro d0 c) ∨ ct_n (fun c => ¬ bf_F S K0 K1 n g rm rf rt ro ds c) 1536 < ct_n (fun c => ¬ bf_F S K0 K1 n g rm rf rt ro d0 c) 1536 := by
  by_cases z : ∃ c, c < 1536 ∧ bf_F S K0 K1 n g rm rf rt ro ds c ∧ ¬ bf_F S K0 K1 n g rm rf rt ro d0 c
  · obtain ⟨c, hc, h1, h2⟩ := z
    exact Or.inr (ct_lt (P := fun c => ¬ bf_F S K0 K1 n g rm rf rt ro ds c) (Q := fun c => ¬ bf_F S K0 K1 n g rm rf rt ro d0 c) (a := c) (fun y => y h1) h2 (fun k hk hn hf => hn (bf_Xc hx hk hf)) hc)
  · refine Or.inl (bf_pass hs h hx (fun c hc hf => ?_))
    by_cases y : bf_F S K0 K1 n g rm rf rt ro d0 c
    · exact y
    · exact absurd ⟨c, hc, hf, y⟩ z
/-- what the finished table says -/
theorem bf_iff {ds : Nat → Nat} {c k : Nat} (hs : rc_S R S K0 K1 n g rm rf rt ro) (h : bf_OK S K0 K1 n g rm rf rt ro ds) (hV : cd_V S K0 K1 c) (hk : k < 1000000) : ds c ≤ k ↔ rc_R S K0 K1 n g rm rf rt ro k c := by
  have hc := (cd_lt hs.1 hV).1
  constructor
  · intro z
    exact rc_mono z ((h.1 c hc).2.2.1 hV (by omega))
  · intro z
    exact h.2 c hc hV k z
end
end
section
/-! the queue of generators -/
def xs_ix (c : Nat) : Nat := ((c / 512 * 3 + c / 128 % 4) * 15 + (c / 8 % 16 - 1)) * 7 + (c % 8 - 1)
theorem xs_ixb {S K0 K1 R c : Nat} (hp : cd_Pm S K0 K1 R) (h : cd_V S K0 K1 c) : c / 512 < 3 ∧ c / 128 % 4 < 3 ∧ 1 ≤ c / 8 % 16 ∧ c / 8 % 16 < 16 ∧ 1 ≤ c % 8 ∧ c % 8 < 8 := by
  obtain ⟨h1, h2, h3, -, h5, -⟩ := h
  have := hp.2.1
  omega
theorem xs_ixlt {S K0 K1 R c : Nat} (hp : cd_Pm S K0 K1 R) (h : cd_V S K0 K1 c) : xs_ix c < 945 := by
  obtain ⟨h1, h2, h3, h4, h5, h6⟩ := xs_ixb hp h
  unfold xs_ix
  omega
theorem xs_inj4 {a b v w a' b' v' w' : Nat} (h2 : b < 3) (h4 : v < 15) (h6 : w < 7) (k2 : b' < 3) (k4 : v' < 15) (k6 : w' < 7)
    (e : ((a * 3 + b) * 15 + v) * 7 + w = ((a' * 3 + b') * 15 + v') * 7 + w') : a = a' ∧ b = b' ∧ v = v' ∧ w = w' := by
  omega
theorem xs_ixinj {S K0 K1 R c d : Nat} (hp : cd_Pm S K0 K1 R) (h : cd_V S K0 K1 c) (h' : cd_V S K0 K1 d) (e : xs_ix c = xs_ix d) : c = d := by
  obtain ⟨h1, h2, h3, h4, h5, h6⟩ := xs_ixb hp h
  obtain ⟨k1, k2, k3, k4, k5, k6⟩ := xs_ixb hp h'
  obtain ⟨e1, e2, e3, e4⟩ := xs_inj4 (a := c / 512) (b := c / 128 % 4) (v := c / 8 % 16 - 1) (w := c % 8 - 1) (a' := d / 512) (b' := d / 128 % 4) (v' := d / 8 % 16 - 1) (w' := d % 8 - 1) h2 (by omega) (by omega) k2 (by omega) (by omega) e
  omega
theorem xs_pigeon {S K0 K1 R p : Nat} {E : Nat → Nat} (hp : cd_Pm S K0 K1 R) (hV : ∀ j, j < 945 → cd_V S K0 K1 (E j)) (hd : ∀ a b, a < b → b < 945 → E a ≠ E b) (h : cd_V S K0 K1 p) : ∃ j, j < 945 ∧ E j = p := by
  have nd : ((List.range 945).map (fun j => xs_ix (E j))).Nodup := by
    refine List.pairwise_map.mpr (List.Pairwise.imp_of_mem ?_ List.pairwise_lt_range)
    intro a b ha hb hlt e
    have hb' := List.mem_range.mp hb
    exact hd a b hlt hb' (xs_ixinj hp (hV a (by omega)) (hV b hb') e)
  have all := covers_all 945 _ nd (by
    intro x hx
    obtain ⟨j, hj, rfl⟩ := List.mem_map.mp hx
    exact xs_ixlt hp (hV j (List.mem_range.mp hj))) (by rw [List.length_map, List.length_range]) (xs_ix p) (xs_ixlt hp h)
  obtain ⟨j, hj, e⟩ := List.mem_map.mp all
  have hj' := List.mem_range.mp hj
  exact ⟨j, hj', xs_ixinj hp (hV j hj') h e⟩
/-- entry a's minimal predecessor by rule s -/
def xs_p (S K0 K1 n g : Nat) (rm rf rt ro : Nat → Nat) (E : Nat → Nat) (a s : Nat) : Nat := ru_mp K0 K1 (rm s) (rf s) (rt s) (ro s) (E a)
/-- entries: valid, sound, within the rounds -/
def xs_A (R S K0 K1 n g : Nat) (rm rf rt ro : Nat → Nat) (N : Nat) (E D : Nat → Nat) : Prop :=
  1 ≤ N ∧ N ≤ 945 ∧ (∀ j, j < N → cd_V S K0 K1 (E j) ∧ rc_R S K0 K1 n g rm rf rt ro (D j) (E j) ∧ D j ≤ R) ∧
  (∀ a b, a < b → b < N → D a ≤ D b ∧ ¬ cd_le (E a) (E b)) ∧ E 0 = g ∧ D 0 = 0
def xs_B (R S K0 K1 n g : Nat) (rm rf rt ro : Nat → Nat) (i r N fl : Nat) (E D : Nat → Nat) : Prop :=
  (i < N → ∀ j, j < N → D j ≤ D i + 1) ∧
  (∀ a s, a < N → s < n → (a < i ∨ (a = i ∧ s < r)) → xs_p S K0 K1 n g rm rf rt ro E a s ≠ 0 → (∃ j, j < N ∧ cd_le (E j) (xs_p S K0 K1 n g rm rf rt ro E a s) ∧ D j ≤ D a + 1) ∨ (D a = R ∧ fl = 1)) ∧
  (fl = 0 ∨ fl = 1) ∧
  (fl = 1 → (i < N → D i = R) ∧ ∃ p, cd_V S K0 K1 p ∧ rc_R S K0 K1 n g rm rf rt ro (R + 1) p ∧ ∀ j, j < N → ¬ cd_le (E j) p)
def xs_I (R S K0 K1 n g : Nat) (rm rf rt ro : Nat → Nat) (i r N fl : Nat) (E D : Nat → Nat) : Prop := xs_A R S K0 K1 n g rm rf rt ro N E D ∧ xs_B R S K0 K1 n g rm rf rt ro i r N fl E D
section
variable {R S K0 K1 n g i r N fl : Nat} {rm rf rt ro E D : Nat → Nat}
theorem xs_0 (hs : rc_S R S K0 K1 n g rm rf rt ro) : xs_I R S K0 K1 n g rm rf rt ro 0 0 1 0 (ba_up E 0 g) (ba_up D 0 0) := by
  have e0 : ba_up E 0 g 0 = g := ba_us
  have d0 : ba_up D 0 0 0 = 0 := ba_us
  refine ⟨⟨by omega, by omega, fun j hj => ?_, fun a b h1 h2 => by omega, e0, d0⟩, fun _ j hj => ?_, fun a s h1 h2 h3 => by omega, Or.inl rfl, fun z => absurd z (by decide)⟩
  · have e : j = 0 := by omega
    rw [e, e0, d0]
    exact ⟨hs.2.2.2, rc_g hs, by omega⟩
  · have e : j = 0 := by omega
    rw [e]; omega
theorem xs_skip (h : xs_I R S K0 K1 n g rm rf rt ro i r N fl E D) (hr : xs_p S K0 K1 n g rm rf rt ro E i r ≠ 0 → (∃ j, j < N ∧ cd_le (E j) (xs_p S K0 K1 n g rm rf rt ro E i r) ∧ D j ≤ D i + 1)) : xs_I R S K0 K1 n g rm rf rt ro i (r + 1) N fl E D := by
  obtain ⟨hA, b1, b2, b3, b4⟩ := h
  refine ⟨hA, b1, fun a s ha hs hx hn => ?_, b3, b4⟩
  by_cases e : a = i ∧ s = r
  · obtain ⟨rfl, rfl⟩ := e
    exact Or.inl (hr hn)
  · exact b2 a s ha hs (by omega) hn
theorem xs_mem (h : xs_I R S K0 K1 n g rm rf rt ro i r N fl E D) (hi : i < N) (hm : ∃ j, j < N ∧ cd_le (E j) (xs_p S K0 K1 n g rm rf rt ro E i r)) : xs_I R S K0 K1 n g rm rf rt ro i (r + 1) N fl E D := by
  obtain ⟨j, hj, hl⟩ := hm
  exact xs_skip h (fun _ => ⟨j, hj, hl, h.2.1 hi j hj⟩)
theorem xs_pok (hs : rc_S R S K0 K1 n g rm rf rt ro) (h : xs_I R S K0 K1 n g rm rf rt ro i r N fl E D) (hi : i < N) (hr : r < n) (hp : xs_p S K0 K1 n g rm rf rt ro E i r ≠ 0) : cd_V S K0 K1 (xs_p S K0 K1 n g rm rf rt ro E i r) ∧ rc_R S K0 K1 n g rm rf rt ro (D i + 1) (xs_p S K0 K1 n g rm rf rt ro E i r) := by
  obtain ⟨v, rr, -⟩ := h.1.2.2.1 i hi
  obtain ⟨v1, v2, v3⟩ := ru_sound hs.1 (hs.2.2.1 r hr) v hp
  exact ⟨v1, rc_fire v1 hr v2 (rc_up v3 rr)⟩
theorem xs_room (hs : rc_S R S K0 K1 n g rm rf rt ro) (h : xs_I R S K0 K1 n g rm rf rt ro i r N fl E D) (hi : i < N) (hr : r < n) (hp : xs_p S K0 K1 n g rm rf rt ro E i r ≠ 0) (hm : ∀ j, j < N → ¬ cd_le (E j) (xs_p S K0 K1 n g rm rf rt ro E i r)) : N < 945 := by
  obtain ⟨a1, a2, a3, a4, -⟩ := h.1
  rcases Nat.lt_or_ge N 945 with z | z
  · exact z
  · have e : N = 945 := by omega
    subst e
    have v := (xs_pok hs h hi hr hp).1
    obtain ⟨j, hj, e⟩ := xs_pigeon hs.1 (fun j hj => (a3 j hj).1) (fun a b hab hb e => (a4 a b hab hb).2 (by rw [e]; exact cd_refl (a3 b hb).1)) v
    exact absurd (by rw [e]; exact cd_refl v) (hm j hj)
theorem xs_add (hs : rc_S R S K0 K1 n g rm rf rt ro) (h : xs_I R S K0 K1 n g rm rf rt ro i r N fl E D) (hi : i < N) (hr : r < n) (hp : xs_p S K0 K1 n g rm rf rt ro E i r ≠ 0) (hm : ∀ j, j < N → ¬ cd_le (E j) (xs_p S K0 K1 n g rm rf rt ro E i r)) (hR : D i + 1 ≤ R) :
    xs_I R S K0 K1 n g rm rf rt ro i (r + 1) (N + 1) fl (ba_up E N (xs_p S K0 K1 n g rm rf rt ro E i r)) (ba_up D N (D i + 1)) := by
  have hN := xs_room hs h hi hr hp hm
  obtain ⟨v, rr⟩ := xs_pok hs h hi hr hp
  generalize hpe : xs_p S K0 K1 n g rm rf rt ro E i r = p at *
  obtain ⟨⟨a1, a2, a3, a4, a5, a6⟩, b1, b2, b3, b4⟩ := h
  have eE : ∀ j, j < N → ba_up E N p j = E j := fun j hj => ba_un (by omega)
  have eD : ∀ j, j < N → ba_up D N (D i + 1) j = D j := fun j hj => ba_un (by omega)
  have nE : ba_up E N p N = p := ba_us
  have nD : ba_up D N (D i + 1) N = D i + 1 := ba_us
  refine ⟨⟨by omega, by omega, fun j hj => ?_, fun a b hab hb => ?_, by rw [eE 0 (by omega)]; exact a5, by rw [eD 0 (by omega)]; exact a6⟩, fun _ j hj => ?_, fun a s ha hsn hx hn => ?_, b3, fun z => ?_⟩
  · rcases Nat.lt_or_ge j N with z | z
    · rw [eE j z, eD j z]; exact a3 j z
    · have e : j = N := by omega
      rw [e, nE, nD]; exact ⟨v, rr, hR⟩
  · rcases Nat.lt_or_ge b N with z | z
    · rw [eE b z, eD b z, eE a (by omega), eD a (by omega)]; exact a4 a b hab z
    · have e : b = N := by omega
      rw [e, nE, nD, eE a (by omega), eD a (by omega)]
      exact ⟨b1 hi a (by omega), hm a (by omega)⟩
  · rw [eD i hi]
    rcases Nat.lt_or_ge j N with z | z
    · rw [eD j z]; exact b1 hi j z
    · have e : j = N := by omega
      rw [e, nD]; omega
  · have ha' : a < N := by omega
    have ep : xs_p S K0 K1 n g rm rf rt ro (ba_up E N p) a s = xs_p S K0 K1 n g rm rf rt ro E a s := by unfold xs_p; rw [eE a ha']
    rw [ep] at hn ⊢
    rw [eD a ha']
    by_cases e : a = i ∧ s = r
    · obtain ⟨rfl, rfl⟩ := e
      exact Or.inl ⟨N, by omega, by rw [nE, hpe]; exact cd_refl v, by rw [nD]; omega⟩
    · rcases b2 a s ha' hsn (by omega) hn with ⟨j, hj, h1, h2⟩ | y
      · exact Or.inl ⟨j, by omega, by rw [eE j hj]; exact h1, by rw [eD j hj]; exact h2⟩
      · exact Or.inr y
  · have := (b4 z).1 hi
    omega
theorem xs_over (hs : rc_S R S K0 K1 n g rm rf rt ro) (h : xs_I R S K0 K1 n g rm rf rt ro i r N fl E D) (hi : i < N) (hr : r < n) (hp : xs_p S K0 K1 n g rm rf rt ro E i r ≠ 0) (hm : ∀ j, j < N → ¬ cd_le (E j) (xs_p S K0 K1 n g rm rf rt ro E i r)) (hR : R < D i + 1) :
    xs_I R S K0 K1 n g rm rf rt ro i (r + 1) N 1 E D := by
  obtain ⟨v, rr⟩ := xs_pok hs h hi hr hp
  obtain ⟨hA, b1, b2, b3, b4⟩ := h
  have hD : D i = R := by have := (hA.2.2.1 i hi).2.2; omega
  refine ⟨hA, b1, fun a s ha hsn hx hn => ?_, Or.inr rfl, fun _ => ⟨fun _ => hD, _, v, by rw [hD] at rr; exact rr, hm⟩⟩
  by_cases e : a = i ∧ s = r
  · obtain ⟨rfl, rfl⟩ := e
    exact Or.inr ⟨hD, rfl⟩
  · rcases b2 a s ha hsn (by omega) hn with y | y
    · exact Or.inl y
    · exact Or.inr ⟨y.1, rfl⟩
theorem xs_next (h : xs_I R S K0 K1 n g rm rf rt ro i n N fl E D) (hi : i < N) : xs_I R S K0 K1 n g rm rf rt ro (i + 1) 0 N fl E D := by
  obtain ⟨hA, b1, b2, b3, b4⟩ := h
  refine ⟨hA, fun h1 j hj => ?_, fun a s ha hsn hx hn => b2 a s ha hsn (by omega) hn, b3, fun z => ⟨fun h1 => ?_, (b4 z).2⟩⟩
  · have := b1 hi j hj
    have := (hA.2.2.2.1 i (i + 1) (by omega) h1).1
    omega
  · have := (b4 z).1 hi
    have := (hA.2.2.2.1 i (i + 1) (by omega) h1).1
    have := (hA.2.2.1 (i + 1) h1).2.2
    omega
end
/-- what saturation ends in -/
def xs_OK (R S K0 K1 n g : Nat) (rm rf rt ro : Nat → Nat) (N fl : Nat) (E D : Nat → Nat) : Prop :=
  xs_A R S K0 K1 n g rm rf rt ro N E D ∧ (∀ k c, cd_V S K0 K1 c → k ≤ R → rc_R S K0 K1 n g rm rf rt ro k c → ∃ j, j < N ∧ cd_le (E j) c ∧ D j ≤ k) ∧ (fl = 0 ∨ fl = 1) ∧
  (fl = 1 → ∃ p, cd_V S K0 K1 p ∧ rc_R S K0 K1 n g rm rf rt ro (R + 1) p ∧ ¬ rc_R S K0 K1 n g rm rf rt ro R p) ∧ (fl = 0 → ∀ k c, cd_V S K0 K1 c → rc_R S K0 K1 n g rm rf rt ro k c → rc_R S K0 K1 n g rm rf rt ro R c)
section
variable {R S K0 K1 n g i r N fl : Nat} {rm rf rt ro E D : Nat → Nat}
theorem xs_end (hs : rc_S R S K0 K1 n g rm rf rt ro) (h : xs_I R S K0 K1 n g rm rf rt ro N 0 N fl E D) : xs_OK R S K0 K1 n g rm rf rt ro N fl E D := by
  obtain ⟨hA, b1, b2, b3, b4⟩ := h
  obtain ⟨a1, a2, a3, a4, a5, a6⟩ := hA
  have step : ∀ k c, cd_V S K0 K1 c → rc_R S K0 K1 n g rm rf rt ro k c → (∃ j, j < N ∧ cd_le (E j) c ∧ D j ≤ k) ∨ (fl = 1 ∧ R < k) := by
    intro k
    induction k with
    | zero => intro c hV hk; exact Or.inl ⟨0, by omega, by rw [a5]; exact hk, by omega⟩
    | succ k ih =>
      intro c hV hk
      rcases hk with y | ⟨d, s, h1, h2, h3, h4, h5⟩
      · rcases ih c hV y with ⟨j, hj, z1, z2⟩ | ⟨z1, z2⟩
        · exact Or.inl ⟨j, hj, z1, by omega⟩
        · exact Or.inr ⟨z1, by omega⟩
      · have hok := hs.2.2.1 s h3
        rcases ih _ (ru_V hs.1 hok h1 h4) h5 with ⟨j, hj, z1, z2⟩ | ⟨z1, z2⟩
        · obtain ⟨c1, c2⟩ := ru_comp hs.1 hok (a3 j hj).1 h1 h4 z1
          rcases b2 j s hj h3 (Or.inl hj) c1 with ⟨j', hj', y1, y2⟩ | ⟨y1, y2⟩
          · exact Or.inl ⟨j', hj', cd_trans y1 (cd_trans c2 h2), by omega⟩
          · by_cases q : R < k + 1
            · exact Or.inr ⟨y2, q⟩
            · omega
        · exact Or.inr ⟨z1, by omega⟩
  refine ⟨⟨a1, a2, a3, a4, a5, a6⟩, fun k c hV hk hr => ?_, b3, fun z => ?_, fun z k c hV hr => ?_⟩
  · rcases step k c hV hr with y | y
    · exact y
    · omega
  · obtain ⟨p, p1, p2, p3⟩ := (b4 z).2
    refine ⟨p, p1, p2, fun hr => ?_⟩
    rcases step R p p1 hr with ⟨j, hj, y1, -⟩ | y
    · exact p3 j hj y1
    · omega
  · rcases step k c hV hr with ⟨j, hj, y1, -⟩ | y
    · exact rc_mono (a3 j hj).2.2 (rc_up y1 (a3 j hj).2.1)
    · omega
/-- membership by the entries -/
theorem xs_iff (h : xs_OK R S K0 K1 n g rm rf rt ro N fl E D) {c : Nat} (hV : cd_V S K0 K1 c) : (∃ j, j < N ∧ cd_le (E j) c) ↔ rc_R S K0 K1 n g rm rf rt ro R c := by
  constructor
  · rintro ⟨j, hj, hl⟩
    have := h.1.2.2.1 j hj
    exact rc_mono this.2.2 (rc_up hl this.2.1)
  · intro z
    obtain ⟨j, hj, hl, -⟩ := h.2.1 R c hV (Nat.le_refl _) z
    exact ⟨j, hj, hl⟩
/-- the first entry below has the least distance -/
theorem xs_first (h : xs_OK R S K0 K1 n g rm rf rt ro N fl E D) {c j : Nat} (hV : cd_V S K0 K1 c) (hj : j < N) (hl : cd_le (E j) c) (hf : ∀ i, i < j → ¬ cd_le (E i) c) :
    D j ≤ R ∧ rc_R S K0 K1 n g rm rf rt ro (D j) c ∧ ∀ k, rc_R S K0 K1 n g rm rf rt ro k c → D j ≤ k := by
  have a := h.1.2.2.1 j hj
  refine ⟨a.2.2, rc_up hl a.2.1, fun k hk => ?_⟩
  by_cases z : k ≤ R
  · obtain ⟨i, hi, l1, l2⟩ := h.2.1 k c hV z hk
    rcases Nat.lt_or_ge i j with q | q
    · exact absurd l1 (hf i q)
    · rcases Nat.eq_or_lt_of_le q with q | q
      · rw [q]; exact l2
      · have := (h.1.2.2.2.1 j i q hi).1
        omega
  · omega
end
end
section
/-! minimal members, the verdict -/
def mn_m (R S K0 K1 n g : Nat) (rm rf rt ro : Nat → Nat) (c : Nat) : Prop :=
  cd_V S K0 K1 c ∧ rc_R S K0 K1 n g rm rf rt ro R c ∧ ∀ q i, q < 2 → i < wk_len (cd_wd c q) → ¬ rc_R S K0 K1 n g rm rf rt ro R (cd_ls c q i)
def mn_x (N : Nat) (E : Nat → Nat) (i : Nat) : Prop := ∀ j, j < N → j ≠ i → ¬ cd_le (E j) (E i)
def mn_C (M : Nat) (C : Nat → Nat) (P : Nat → Prop) : Prop := (∀ a b, a < b → b < M → C a < C b) ∧ (∀ c, P c ↔ ∃ j, j < M ∧ C j = c)
def mn_s (M : Nat) (C : Nat → Nat) (s c : Nat) : Prop := s ≤ M ∧ (∀ j, j < s → C j < c) ∧ (∀ j, s ≤ j → j < M → c ≤ C j)
section
variable {R S K0 K1 n g N M fl : Nat} {rm rf rt ro E D C : Nat → Nat}
theorem mn_iff (h : xs_OK R S K0 K1 n g rm rf rt ro N fl E D) (c : Nat) : mn_m R S K0 K1 n g rm rf rt ro c ↔ ∃ i, i < N ∧ E i = c ∧ mn_x N E i := by
  obtain ⟨a1, a2, a3, a4, a5, a6⟩ := h.1
  constructor
  · rintro ⟨hV, hR, hl⟩
    have low : ∀ j, j < N → cd_le (E j) c → E j = c := by
      intro j hj hle
      by_cases e : E j = c
      · exact e
      · obtain ⟨q, i, hq, hi, z⟩ := cd_lsex hV hle e
        exact absurd ((xs_iff h (cd_lsV hV hq hi)).mp ⟨j, hj, z⟩) (hl q i hq hi)
    obtain ⟨i, hi, hle⟩ := (xs_iff h hV).mpr hR
    have e := low i hi hle
    refine ⟨i, hi, e, fun j hj hn hb => ?_⟩
    rw [e] at hb
    have e' := low j hj hb
    rcases Nat.lt_or_ge j i with z | z
    · exact (a4 j i z hi).2 (by rw [e, e']; exact cd_refl hV)
    · exact (a4 i j (by omega) hj).2 (by rw [e, e']; exact cd_refl hV)
  · rintro ⟨i, hi, rfl, hx⟩
    have hV := (a3 i hi).1
    refine ⟨hV, (xs_iff h hV).mp ⟨i, hi, cd_refl hV⟩, fun q k hq hk hr => ?_⟩
    obtain ⟨j, hj, hle⟩ := (xs_iff h (cd_lsV hV hq hk)).mpr hr
    have lt := cd_lslt hq hk
    by_cases e : j = i
    · subst e
      have := cd_nle (cd_lsV hV hq hk) hle
      omega
    · exact hx j hj e (cd_trans hle (cd_lsle hV hq hk))
theorem mn_ins {P : Nat → Prop} {s v : Nat} {C' : Nat → Nat} (h : mn_C M C P) (hs : s ≤ M) (h1 : ∀ j, j < s → C j < v) (h2 : ∀ j, s ≤ j → j < M → v < C j)
    (e1 : ∀ j, j < s → C' j = C j) (e2 : C' s = v) (e3 : ∀ j, s ≤ j → j < M → C' (j + 1) = C j) : mn_C (M + 1) C' (fun c => P c ∨ c = v) := by
  obtain ⟨hs1, hs2⟩ := h
  refine ⟨fun a b hab hb => ?_, fun c => ⟨fun z => ?_, fun z => ?_⟩⟩
  · rcases Nat.lt_trichotomy b s with y | y | y
    · rw [e1 a (by omega), e1 b y]; exact hs1 a b hab (by omega)
    · rw [y, e2, e1 a (by omega)]; exact h1 a (by omega)
    · obtain ⟨b', rfl⟩ : ∃ b', b = b' + 1 := ⟨b - 1, by omega⟩
      rw [e3 b' (by omega) (by omega)]
      rcases Nat.lt_trichotomy a s with x | x | x
      · rw [e1 a x]; exact hs1 a b' (by omega) (by omega)
      · rw [x, e2]; exact h2 b' (by omega) (by omega)
      · obtain ⟨a', rfl⟩ : ∃ a', a = a' + 1 := ⟨a - 1, by omega⟩
        rw [e3 a' (by omega) (by omega)]; exact hs1 a' b' (by omega) (by omega)
  · rcases z with z | z
    · obtain ⟨j, hj, e⟩ := (hs2 c).mp z
      rcases Nat.lt_or_ge j s with y | y
      · exact ⟨j, by omega, by rw [e1 j y]; exact e⟩
      · exact ⟨j + 1, by omega, by rw [e3 j y hj]; exact e⟩
    · exact ⟨s, by omega, by rw [e2]; exact z.symm⟩
  · obtain ⟨j, hj, e⟩ := z
    rcases Nat.lt_trichotomy j s with y | y | y
    · exact Or.inl ((hs2 c).mpr ⟨j, by omega, by rw [← e1 j y]; exact e⟩)
    · right; rw [← e, y, e2]
    · obtain ⟨j', rfl⟩ : ∃ j', j = j' + 1 := ⟨j - 1, by omega⟩
      exact Or.inl ((hs2 c).mpr ⟨j', by omega, by rw [← e3 j' (by omega) (by omega)]; exact e⟩)
theorem mn_C0 : mn_C 0 C (fun c => ∃ j, j < 0 ∧ E j = c ∧ mn_x N E j) :=
  ⟨fun a b h1 h2 => by omega, fun c => ⟨fun ⟨j, h, _⟩ => by omega, fun ⟨j, h, _⟩ => by omega⟩⟩
theorem mn_congr {P Q : Nat → Prop} (h : mn_C M C P) (e : ∀ c, Q c ↔ P c) : mn_C M C Q := ⟨h.1, fun c => (e c).trans (h.2 c)⟩
theorem mn_hit {P : Nat → Prop} {s c : Nat} (h : mn_C M C P) (hs : mn_s M C s c) (hp : P c) : s < M ∧ C s = c ∧ mn_s M C (s + 1) (c + 1) := by
  obtain ⟨j, hj, e⟩ := (h.2 c).mp hp
  obtain ⟨s1, s2, s3⟩ := hs
  have hjs : s ≤ j := by
    rcases Nat.lt_or_ge j s with z | z
    · have := s2 j z; omega
    · exact z
  have e2 : j = s := by
    rcases Nat.eq_or_lt_of_le hjs with z | z
    · exact z.symm
    · have a := h.1 s j z hj
      have b := s3 s (Nat.le_refl _) (by omega)
      omega
  subst e2
  refine ⟨hj, e, by omega, fun i hi => ?_, fun i h1 h2 => ?_⟩
  · rcases Nat.lt_or_ge i j with z | z
    · have := s2 i z; omega
    · have : i = j := by omega
      subst this; omega
  · have := h.1 j i (by omega) h2
    omega
theorem mn_miss {P : Nat → Prop} {s c : Nat} (h : mn_C M C P) (hs : mn_s M C s c) (hp : ¬ P c) : mn_s M C s (c + 1) := by
  obtain ⟨s1, s2, s3⟩ := hs
  refine ⟨s1, fun j hj => by have := s2 j hj; omega, fun j h1 h2 => ?_⟩
  have := s3 j h1 h2
  by_cases e : C j = c
  · exact absurd ((h.2 c).mpr ⟨j, h2, e⟩) hp
  · omega
theorem mn_s0 : mn_s M C 0 0 := ⟨by omega, fun j hj => by omega, fun j _ _ => by omega⟩
end
/-! unsupported receives -/
def vd_u (R S K0 K1 n g : Nat) (rm rf rt ro : Nat → Nat) (r c : Nat) : Prop :=
  5 ≤ ro r ∧ cd_st c (rm r) = rt r ∧ cd_cp K0 K1 (ru_q (ro r)) ≤ wk_len (cd_wd c (ru_q (ro r))) ∧
  ∀ i, i ≤ wk_len (cd_wd c (ru_q (ro r))) → ¬ rc_R S K0 K1 n g rm rf rt ro R (cd_sw (cd_ss c (rm r) (rf r)) (ru_q (ro r)) (wk_wo (wk_pp (ru_l (ro r)) (cd_wd c (ru_q (ro r)))) i))
/-- some valid code is reached later than the rounds -/
def vd_B (R S K0 K1 n g : Nat) (rm rf rt ro : Nat → Nat) : Prop := ∃ c, cd_V S K0 K1 c ∧ ¬ rc_R S K0 K1 n g rm rf rt ro R c ∧ rc_R S K0 K1 n g rm rf rt ro (R + 1) c
def vd_U (R S K0 K1 n g : Nat) (rm rf rt ro : Nat → Nat) : Prop := ∃ r c, r < n ∧ cd_V S K0 K1 c ∧ rc_R S K0 K1 n g rm rf rt ro R c ∧ vd_u R S K0 K1 n g rm rf rt ro r c
noncomputable def vd_f (R S K0 K1 n g : Nat) (rm rf rt ro : Nat → Nat) : Nat :=
  if ct_b (rc_R S K0 K1 n g rm rf rt ro R 9) = 1 then 1 else if ct_b (vd_B R S K0 K1 n g rm rf rt ro) = 1 then 4 else if ct_b (vd_U R S K0 K1 n g rm rf rt ro) = 1 then 3 else 2
section
variable {R S K0 K1 n g N M fl : Nat} {rm rf rt ro E D C : Nat → Nat}
theorem vd_1 (h : rc_R S K0 K1 n g rm rf rt ro R 9) : vd_f R S K0 K1 n g rm rf rt ro = 1 := by
  unfold vd_f; rw [if_pos (ct_bt h)]
theorem vd_4 (h : ¬ rc_R S K0 K1 n g rm rf rt ro R 9) (hb : vd_B R S K0 K1 n g rm rf rt ro) : vd_f R S K0 K1 n g rm rf rt ro = 4 := by
  unfold vd_f; rw [if_neg (by rw [ct_bf h]; decide), if_pos (ct_bt hb)]
theorem vd_3 (h : ¬ rc_R S K0 K1 n g rm rf rt ro R 9) (hb : ¬ vd_B R S K0 K1 n g rm rf rt ro) (hu : vd_U R S K0 K1 n g rm rf rt ro) : vd_f R S K0 K1 n g rm rf rt ro = 3 := by
  unfold vd_f; rw [if_neg (by rw [ct_bf h]; decide), if_neg (by rw [ct_bf hb]; decide), if_pos (ct_bt hu)]
theorem vd_2 (h : ¬ rc_R S K0 K1 n g rm rf rt ro R 9) (hb : ¬ vd_B R S K0 K1 n g rm rf rt ro) (hu : ¬ vd_U R S K0 K1 n g rm rf rt ro) : vd_f R S K0 K1 n g rm rf rt ro = 2 := by
  unfold vd_f; rw [if_neg (by rw [ct_bf h]; decide), if_neg (by rw [ct_bf hb]; decide), if_neg (by rw [ct_bf hu]; decide)]
theorem vd_cl (hs : rc_S R S K0 K1 n g rm rf rt ro) (hb : ¬ vd_B R S K0 K1 n g rm rf rt ro) : ∀ k c, cd_V S K0 K1 c → rc_R S K0 K1 n g rm rf rt ro k c → rc_R S K0 K1 n g rm rf rt ro R c := by
  have one : ∀ c, cd_V S K0 K1 c → rc_R S K0 K1 n g rm rf rt ro (R + 1) c → rc_R S K0 K1 n g rm rf rt ro R c := by
    intro c hV hr
    by_cases z : rc_R S K0 K1 n g rm rf rt ro R c
    · exact z
    · exact absurd ⟨c, hV, z, hr⟩ hb
  intro k
  induction k with
  | zero => intro c hV h; exact rc_mono (Nat.zero_le _) h
  | succ k ih =>
    intro c hV h
    rcases h with y | ⟨d, r, h1, h2, h3, h4, h5⟩
    · exact ih c hV y
    · exact one c hV (Or.inr ⟨d, r, h1, h2, h3, h4, ih _ (ru_V hs.1 (hs.2.2.1 r h3) h1 h4) h5⟩)
theorem vd_low {c : Nat} (hV : cd_V S K0 K1 c) (hr : rc_R S K0 K1 n g rm rf rt ro R c) : ∃ m, mn_m R S K0 K1 n g rm rf rt ro m ∧ cd_le m c := by
  induction c using Nat.strongRecOn with
  | ind c ih =>
    by_cases z : ∃ q i, q < 2 ∧ i < wk_len (cd_wd c q) ∧ rc_R S K0 K1 n g rm rf rt ro R (cd_ls c q i)
    · obtain ⟨q, i, hq, hi, z⟩ := z
      obtain ⟨m, h1, h2⟩ := ih _ (cd_lslt hq hi) (cd_lsV hV hq hi) z
      exact ⟨m, h1, cd_trans h2 (cd_lsle hV hq hi)⟩
    · exact ⟨c, ⟨hV, hr, fun q i hq hi y => z ⟨q, i, hq, hi, y⟩⟩, cd_refl hV⟩
theorem vd_fdl {R S K0 K1 q a c i : Nat} (hp : cd_Pm S K0 K1 R) (hq : q < 2) (ha : a < 2) (hV : cd_V S K0 K1 c) (hi : i ≤ wk_len (cd_wd c q)) :
    cd_fw q (wk_wo (wk_pp a (cd_wd c q)) i) ∧ 1 ≤ wk_wo (wk_pp a (cd_wd c q)) i ∧ wk_wo (wk_pp a (cd_wd c q)) i < 2 ^ (cd_cp K0 K1 q + 1) := by
  obtain ⟨h1, h2⟩ := cd_Vw hV hq
  have hl := (wk_fit _ (cd_w16 hq) _ (cd_cpb hp hq).2.1 h1).mp h2
  obtain ⟨d1, d2⟩ := wk_dl (cd_w16 hq) ha h1 hi
  have : 2 ^ (wk_len (cd_wd c q) + 1) ≤ 2 ^ (cd_cp K0 K1 q + 1) := Nat.pow_le_pow_right (by decide) (by omega)
  exact ⟨cd_fwc hp hq (by omega), d1, by omega⟩
theorem vd_min (hs : rc_S R S K0 K1 n g rm rf rt ro) (hc : ∀ k c, cd_V S K0 K1 c → rc_R S K0 K1 n g rm rf rt ro k c → rc_R S K0 K1 n g rm rf rt ro R c) (h : vd_U R S K0 K1 n g rm rf rt ro) : ∃ r m, r < n ∧ mn_m R S K0 K1 n g rm rf rt ro m ∧ vd_u R S K0 K1 n g rm rf rt ro r m := by
  obtain ⟨r, c, hr, hV, hR, u1, u2, u3, u4⟩ := h
  obtain ⟨m, hm, hle⟩ := vd_low hV hR
  have hV' := hm.1
  have hp := hs.1
  have hok := hs.2.2.1 r hr
  have hq := ru_q2 (ro r)
  have hl := ru_l2 (ro r)
  have f4 : rf r < 4 := by have := hok.2.1; have := hp.2.1; omega
  obtain ⟨l1, l2⟩ := wk_lsb _ (cd_w16 (c := m) hq) _ (cd_w16 (c := c) hq) (cd_lew hle hq) (cd_Vw hV hq).1
  have st : cd_st m (rm r) = rt r := by rw [cd_let hle hok.1]; exact u2
  rcases Nat.eq_or_lt_of_le l1 with e | lt
  · have ew := l2 e
    refine ⟨r, m, hr, hm, u1, st, by rw [ew]; exact u3, fun i hi hx => ?_⟩
    rw [ew] at hi hx
    refine u4 i hi (rc_up (cd_lesw (cd_less hle hok.1 f4) hq ?_ ?_ ?_) hx)
    · exact (vd_fdl hp hq hl hV hi).1
    · exact (vd_fdl hp hq hl hV hi).1
    · exact wk_refl _ (vd_fdl hp hq hl hV hi).1.1 (vd_fdl hp hq hl hV hi).2.1
  · have lc := (wk_fit _ (cd_w16 (c := c) hq) _ (cd_cpb hp hq).2.1 (cd_Vw hV hq).1).mp (cd_Vw hV hq).2
    have l3 := wk_len3 _ (cd_w16 (c := c) hq)
    have nf : ¬ cd_cp K0 K1 (ru_q (ro r)) ≤ wk_len (cd_wd m (ru_q (ro r))) := by omega
    have m8 := (ru_nf hp hq nf).2
    have o0 : ¬ ro r = 0 := by omega
    have o5 : ¬ ro r < 5 := by omega
    have e1 : ru_mp K0 K1 (rm r) (rf r) (rt r) (ro r) m = cd_sw (cd_ss m (rm r) (rf r)) (ru_q (ro r)) (wk_pp (ru_l (ro r)) (cd_wd m (ru_q (ro r)))) := by
      unfold ru_mp; rw [if_pos st, if_neg o0, if_neg o5, if_neg nf]
    obtain ⟨p1, p2, p3, p4, p5⟩ := wk_q2 _ m8 _ hl (cd_Vw hV' hq).1
    have hb : wk_pp (ru_l (ro r)) (cd_wd m (ru_q (ro r))) < 2 ^ (cd_cp K0 K1 (ru_q (ro r)) + 1) := by
      rw [wk_fit _ p3 _ (cd_cpb hp hq).2.1 (by omega)]; omega
    have hfw := cd_fwc hp hq hb
    have hne : ru_mp K0 K1 (rm r) (rf r) (rt r) (ro r) m ≠ 0 := by
      intro z
      have a : cd_wd (ru_mp K0 K1 (rm r) (rf r) (rt r) (ro r) m) (ru_q (ro r)) = wk_pp (ru_l (ro r)) (cd_wd m (ru_q (ro r))) := by rw [e1, cd_ws hq hfw]
      rw [z] at a
      have b : cd_wd 0 (ru_q (ro r)) = 0 := by rcases cd_q hq with y | y <;> rw [y] <;> rfl
      omega
    obtain ⟨s1, s2, s3⟩ := ru_sound hp hok hV' hne
    have s4 := hc _ _ s1 (rc_fire s1 hr s2 (rc_up s3 hm.2.1))
    rw [e1] at s4
    obtain ⟨i, hi, hsb⟩ := wk_del (a := ru_l (ro r)) m8 (cd_w16 (c := c) hq) hl (cd_Vw hV' hq).1 (cd_Vw hV hq).1 (cd_lew hle hq) lt
    exact absurd (rc_up (cd_lesw (cd_less hle hok.1 f4) hq hfw (vd_fdl hp hq hl hV hi).1 hsb) s4) (u4 i hi)
end
end
section
/-! the bit operations of the component as arithmetic -/
theorem ba_s9 {c : Nat} (hc : c < 2 ^ 31) : nI c >>> ((9 : Int32) &&& 31) = nI (c / 512) := ba_sh (i := 9) hc (by decide)
theorem ba_s7 {c : Nat} (hc : c < 2 ^ 31) : nI c >>> ((7 : Int32) &&& 31) = nI (c / 128) := ba_sh (i := 7) hc (by decide)
theorem ba_s3 {c : Nat} (hc : c < 2 ^ 31) : nI c >>> ((3 : Int32) &&& 31) = nI (c / 8) := ba_sh (i := 3) hc (by decide)
theorem ba_s1 {c : Nat} (hc : c < 2 ^ 31) : nI c >>> ((1 : Int32) &&& 31) = nI (c / 2) := ba_sh (i := 1) hc (by decide)
theorem ba_a3 {c : Nat} (hc : c < 2 ^ 31) : nI c &&& 3 = nI (c % 4) := pk_andN (m := 3) (by omega) 2 (by decide)
theorem ba_a15 {c : Nat} (hc : c < 2 ^ 31) : nI c &&& 15 = nI (c % 16) := pk_andN (m := 15) (by omega) 4 (by decide)
theorem ba_a7 {c : Nat} (hc : c < 2 ^ 31) : nI c &&& 7 = nI (c % 8) := pk_andN (m := 7) (by omega) 3 (by decide)
theorem ba_a511 {c : Nat} (hc : c < 2 ^ 31) : nI c &&& 511 = nI (c % 512) := pk_andN (m := 511) (by omega) 9 (by decide)
theorem ba_k1 : ∀ c, c < 1536 → nI c &&& (-385) = nI (c / 512 * 512 + c % 128) := by decide +kernel
theorem ba_k2 : ∀ c, c < 1536 → nI c &&& (-121) = nI (c / 128 * 128 + c % 8) := by decide +kernel
theorem ba_k3 : ∀ c, c < 1536 → nI c &&& (-8) = nI (c / 8 * 8) := by decide +kernel
theorem ba_o1 : ∀ h, h < 3 → ∀ l, l < 128 → ∀ s, s < 4 → nI (h * 512 + l) ||| (nI s <<< ((7 : Int32) &&& 31)) = nI (h * 512 + s * 128 + l) := by decide +kernel
theorem ba_o2 : ∀ h, h < 12 → ∀ l, l < 8 → ∀ w, w < 16 → nI (h * 128 + l) ||| (nI w <<< ((3 : Int32) &&& 31)) = nI (h * 128 + w * 8 + l) := by decide +kernel
theorem ba_ss0 {c s : Nat} (hc : c < 1536) (hs : s < 4) : (nI c &&& 511) ||| (nI s <<< ((9 : Int32) &&& 31)) = nI (cd_ss c 0 s) := by
  rw [ba_a511 (by omega), pk_shlN _ 9 (by decide) (by omega), ba_or (k := 9) (by omega)]
  rfl
theorem ba_ss1 {c s : Nat} (hc : c < 1536) (hs : s < 4) : (nI c &&& (-385)) ||| (nI s <<< ((7 : Int32) &&& 31)) = nI (cd_ss c 1 s) := by
  rw [ba_k1 c hc, ba_o1 _ (by omega) _ (by omega) _ hs]
  rfl
theorem ba_sw0 {c w : Nat} (hc : c < 1536) (hw : w < 16) : (nI c &&& (-121)) ||| (nI w <<< ((3 : Int32) &&& 31)) = nI (cd_sw c 0 w) := by
  rw [ba_k2 c hc, ba_o2 _ (by omega) _ (by omega) _ hw]
  rfl
theorem ba_sw1 {c w : Nat} (hc : c < 1536) (hw : w < 8) : (nI c &&& (-8)) ||| nI w = nI (cd_sw c 1 w) := by
  rw [ba_k3 c hc, Int32.or_comm, show (8 : Nat) = 2 ^ 3 from rfl, ba_or (k := 3) (by omega)]
  rfl
theorem ba_qo : ∀ o, o < 9 → 1 ≤ o → (((nI o - 1) >>> ((1 : Int32) &&& 31)) &&& 1) = nI (ru_q o) := by decide +kernel
theorem ba_lo : ∀ o, o < 9 → 1 ≤ o → ((nI o - 1) &&& 1) = nI (ru_l o) := by decide +kernel
theorem ba_pp : ∀ w, w < 16 → 1 ≤ w → ∀ a, a < 2 → (((2 : Int32) <<< (nI (wk_len w) &&& 31)) ||| (nI a <<< (nI (wk_len w) &&& 31))) ||| (nI w - ((1 : Int32) <<< (nI (wk_len w) &&& 31))) = nI (wk_pp a w) := by decide +kernel
theorem ba_wo : ∀ w, w < 32 → ∀ i, i < 4 → i < wk_len w →
    (((nI w >>> ((((nI (wk_len w) - 1) - nI i) + 1) &&& 31)) <<< (((nI (wk_len w) - 1) - nI i) &&& 31)) ||| (nI w &&& (((1 : Int32) <<< (((nI (wk_len w) - 1) - nI i) &&& 31)) - 1))) = nI (wk_wo w i) := by decide +kernel
theorem ba_wy : ∀ w, w < 32 → ∀ i, i < 4 → i < wk_len w →
    (((nI w >>> ((((nI (wk_len w) - 1) - nI i) + 1) &&& 31)) <<< (((nI (wk_len w) - 1) - nI i) &&& 31)) + (nI w &&& (((1 : Int32) <<< (((nI (wk_len w) - 1) - nI i) &&& 31)) - 1))) = nI (wk_wo w i) := by decide +kernel
theorem ba_hd : ∀ w, w < 32 → ∀ i, i < 4 → i < wk_len w → ((nI w >>> (((nI (wk_len w) - 1) - nI i) &&& 31)) &&& 1) = nI (wk_hd w i) := by decide +kernel
theorem ba_hd0 : ∀ w, w < 32 → 0 < wk_len w → ((nI w >>> ((nI (wk_len w) - 1) &&& 31)) &&& 1) = nI (wk_hd w 0) := by decide +kernel
theorem ba_2K : ∀ K, K < 4 → (2 : Int32) <<< (nI K &&& 31) = nI (2 ^ (K + 1)) := by decide +kernel
theorem ba_1K : ∀ K, K < 5 → (1 : Int32) <<< (nI K &&& 31) = nI (2 ^ K) := by decide +kernel
def wk_lf (w : Nat) : Nat → Nat → Nat → Nat
  | 0, s, _ => s
  | d + 1, s, i => if w / 2 ^ i = 0 then wk_lf w d s (i + 1) else wk_lf w d i (i + 1)
theorem wk_lfe : ∀ w, w < 32 → wk_lf w 4 0 1 = wk_len w := by decide +kernel
/-! the component's small methods -/
section
variable {post : Int32 → Prop}
theorem xw_stateOf {u : SX} {c m : Nat} (hc : c < 2 ^ 31) (hm : m < 2) (h : post (nI (cd_st c m))) : wpX_stateOf post u (nI c) (nI m) := by
  obtain ⟨z1, z2, z3, z4, z5, z6, z7, z8, z9, z10, z11, z12, z13, z14, z15, z16, z17, z18, z19, z20⟩ := u
  rcases cd_q hm with rfl | rfl
  · refine br_t rfl ?_
    rw [ba_s9 hc]; exact h
  · refine br_f ba_10 ?_
    rw [ba_s7 hc, ba_a3 (by omega)]; exact h
theorem xw_withState {u : SX} {c m s : Nat} (hc : c < 1536) (hm : m < 2) (hs : s < 4) (h : post (nI (cd_ss c m s))) : wpX_withState post u (nI c) (nI m) (nI s) := by
  obtain ⟨z1, z2, z3, z4, z5, z6, z7, z8, z9, z10, z11, z12, z13, z14, z15, z16, z17, z18, z19, z20⟩ := u
  rcases cd_q hm with rfl | rfl
  · refine br_t rfl ?_
    rw [ba_ss0 hc hs]; exact h
  · refine br_f ba_10 ?_
    rw [ba_ss1 hc hs]; exact h
theorem xw_queueOf {u : SX} {o : Nat} (ho : o < 9) (h1 : 1 ≤ o) (h : post (nI (ru_q o))) : wpX_queueOf post u (nI o) := by
  obtain ⟨z1, z2, z3, z4, z5, z6, z7, z8, z9, z10, z11, z12, z13, z14, z15, z16, z17, z18, z19, z20⟩ := u
  unfold wpX_queueOf
  dsimp only
  rw [ba_qo o ho h1]; exact h
theorem xw_letterOf {u : SX} {o : Nat} (ho : o < 9) (h1 : 1 ≤ o) (h : post (nI (ru_l o))) : wpX_letterOf post u (nI o) := by
  obtain ⟨z1, z2, z3, z4, z5, z6, z7, z8, z9, z10, z11, z12, z13, z14, z15, z16, z17, z18, z19, z20⟩ := u
  unfold wpX_letterOf
  dsimp only
  rw [ba_lo o ho h1]; exact h
theorem xw_wordOf {u : SX} {c q : Nat} (hc : c < 2 ^ 31) (hq : q < 2) (h : post (nI (cd_wd c q))) : wpX_wordOf post u (nI c) (nI q) := by
  obtain ⟨z1, z2, z3, z4, z5, z6, z7, z8, z9, z10, z11, z12, z13, z14, z15, z16, z17, z18, z19, z20⟩ := u
  rcases cd_q hq with rfl | rfl
  · refine br_t rfl ?_
    rw [ba_s3 hc, ba_a15 (by omega)]; exact h
  · refine br_f ba_10 ?_
    rw [ba_a7 hc]; exact h
theorem xw_withWord {u : SX} {c q w : Nat} (hc : c < 1536) (hq : q < 2) (hw : cd_fw q w) (h : post (nI (cd_sw c q w))) : wpX_withWord post u (nI c) (nI q) (nI w) := by
  obtain ⟨z1, z2, z3, z4, z5, z6, z7, z8, z9, z10, z11, z12, z13, z14, z15, z16, z17, z18, z19, z20⟩ := u
  rcases cd_q hq with rfl | rfl
  · refine br_t rfl ?_
    rw [ba_sw0 hc hw.1]; exact h
  · refine br_f ba_10 ?_
    rw [ba_sw1 hc (by have := hw.2; omega)]; exact h
theorem xw_len4 {z1 z2 z3 z4 z5 z6 z7 z8 z9 z10 z11 z12 z13 : Int32} {z14 z15 z16 z17 z18 z19 z20 : Nat → Int32} {w : Nat} (hw : w < 2 ^ 31) : ∀ d s i, i + d = 5 → post (nI (wk_lf w d s i)) → wX_length_4 post (nI w) z1 z2 z3 z4 z5 z6 z7 z8 z9 z10 z11 z12 z13 z14 z15 z16 z17 z18 z19 z20 (d + 1) (nI s) (nI i) := by
  intro d
  induction d with
  | zero =>
    intro s i hi h
    exact br_t (nI_lt (a := 4) (by omega) (by omega)) h
  | succ d ih =>
    intro s i hi h
    refine br_f (nI_nlt (b := i) (a := 4) (by omega) (by omega)) ?_
    unfold wk_lf at h
    refine pk_eq (w / 2 ^ i) 0 (fun z => nm_r (nI_1 i) ?_) (fun z => nm_r (nI_1 i) ?_) (ba_sh hw (by omega)) rfl (Nat.lt_of_le_of_lt (Nat.div_le_self _ _) hw) (by omega)
    · rw [if_pos z] at h
      exact ih s (i + 1) (by omega) h
    · rw [if_neg z] at h
      exact ih i (i + 1) (by omega) h
theorem xw_length {u : SX} {w : Nat} (hw : w < 32) (h : post (nI (wk_len w))) : wpX_length post u (nI w) := by
  obtain ⟨z1, z2, z3, z4, z5, z6, z7, z8, z9, z10, z11, z12, z13, z14, z15, z16, z17, z18, z19, z20⟩ := u
  rw [← wk_lfe w hw] at h
  exact ⟨5, xw_len4 (by omega) 4 0 1 rfl h⟩
theorem xw_prepend {u : SX} {a w : Nat} (hw : w < 16) (h1 : 1 ≤ w) (ha : a < 2) (h : post (nI (wk_pp a w))) : wpX_prepend post u (nI a) (nI w) := by
  obtain ⟨z1, z2, z3, z4, z5, z6, z7, z8, z9, z10, z11, z12, z13, z14, z15, z16, z17, z18, z19, z20⟩ := u
  unfold wpX_prepend
  dsimp only
  refine xw_length (by omega) (nm_e ?_)
  rw [ba_pp w hw h1 a ha]; exact h
theorem xw_without {u : SX} {w i : Nat} (hw : w < 32) (hi : i < wk_len w) (h : post (nI (wk_wo w i))) : wpX_without post u (nI w) (nI i) := by
  obtain ⟨z1, z2, z3, z4, z5, z6, z7, z8, z9, z10, z11, z12, z13, z14, z15, z16, z17, z18, z19, z20⟩ := u
  unfold wpX_without
  dsimp only
  refine xw_length hw (nm_e (nm_e ?_))
  rw [ba_wo w hw i (by have := wk_len4 w hw; omega) hi]; exact h
theorem xw_sub12 {z1 z2 z3 z4 z5 z6 z7 z8 z9 z10 z11 z12 z13 : Int32} {z14 z15 z16 z17 z18 z19 z20 : Nat → Int32} {v s : Nat} (hv : v < 2 ^ 31) (hs : s < 32) : ∀ k i r, i + k = s → r < 2 ^ 31 → (wk_g v k i r = 1 → post 1) → (wk_g v k i r ≠ 1 → post 0) → wX_isSubword_12 post (nI v) (nI s) z1 z2 z3 z4 z5 z6 z7 z8 z9 z10 z11 z12 z13 z14 z15 z16 z17 z18 z19 z20 (k + 1) (nI r) (nI i) := by
  intro k
  induction k with
  | zero =>
    intro i r hi hr h1 h0
    exact br_t (nI_le (by omega) (by omega)) (pk_eq r 1 h1 h0)
  | succ k ih =>
    intro i r hi hr h1 h0
    unfold wk_g at h1 h0
    refine br_f (nI_ge (by omega) (by omega)) ?_
    refine pk_le r 1 (fun z => nm_r (nI_1 i) ?_) (fun z => ?_)
    · rw [if_neg (by omega)] at h1 h0
      exact ih (i + 1) r (by omega) hr h1 h0
    · have e1 : nI r &&& 1 = nI (r % 2) := ba_a1 hr
      have e2 : (nI v >>> (nI i &&& 31)) &&& 1 = nI (v / 2 ^ i % 2) := by
        rw [ba_sh hv (by omega), ba_a1 (Nat.lt_of_le_of_lt (Nat.div_le_self _ _) hv)]
      refine pk_eq (r % 2) (v / 2 ^ i % 2) (fun y => nm_r (ba_s1 hr) (nm_r (nI_1 i) ?_)) (fun y => nm_r (nI_1 i) ?_) e1 e2 (by omega) (by omega)
      · rw [if_pos ⟨z, y⟩] at h1 h0
        exact ih (i + 1) (r / 2) (by omega) (by omega) h1 h0
      · rw [if_neg (fun x => y x.2)] at h1 h0
        exact ih (i + 1) r (by omega) hr h1 h0
theorem xw_isSubword {u : SX} {a v : Nat} (ha : a < 2 ^ 31) (hv : v < 32) (h1 : wk_sb a v = true → post 1) (h0 : ¬ wk_sb a v = true → post 0) : wpX_isSubword post u (nI a) (nI v) := by
  obtain ⟨z1, z2, z3, z4, z5, z6, z7, z8, z9, z10, z11, z12, z13, z14, z15, z16, z17, z18, z19, z20⟩ := u
  unfold wpX_isSubword
  dsimp only
  have l4 := wk_len4 v hv
  refine xw_length hv ⟨wk_len v + 1, ?_⟩
  refine xw_sub12 (by omega) (by omega) (wk_len v) 0 a (by omega) ha (fun z => h1 ?_) (fun z => h0 ?_)
  · unfold wk_sb; rw [z]; rfl
  · unfold wk_sb
    intro y
    exact z (eq_of_beq y)
theorem xw_isBelow {u : SX} {c d : Nat} (hc : c < 2 ^ 31) (hd : d < 2 ^ 31) (h1 : cd_le c d → post 1) (h0 : ¬ cd_le c d → post 0) : wpX_isBelow post u (nI c) (nI d) := by
  obtain ⟨z1, z2, z3, z4, z5, z6, z7, z8, z9, z10, z11, z12, z13, z14, z15, z16, z17, z18, z19, z20⟩ := u
  refine pk_eq (c / 128) (d / 128) (fun e => ?_) (fun e => h0 (fun z => e z.1)) (ba_s7 hc) (ba_s7 hd)
  refine xw_wordOf (q := 0) hc (by omega) (xw_wordOf (q := 0) hd (by omega) ?_)
  refine xw_isSubword (by have := cd_w16 (c := c) (q := 0) (by omega); omega) (by have := cd_w16 (c := d) (q := 0) (by omega); omega) (fun y => br_f ba_10 ?_) (fun y => br_t rfl (h0 (fun z => y z.2.1)))
  refine xw_wordOf (q := 1) hc (by omega) (xw_wordOf (q := 1) hd (by omega) ?_)
  exact xw_isSubword (by have := cd_w16 (c := c) (q := 1) (by omega); omega) (by have := cd_w16 (c := d) (q := 1) (by omega); omega) (fun x => ⟨narrow_b1, h1 ⟨e, y, x⟩⟩) (fun x => ⟨narrow_b0, h0 (fun z => x z.2.2)⟩)
end
end
section
/-! the component's methods that read the rules and the entries -/
section
variable {post : Int32 → Prop} {S K0 K1 R cu g n N M an fl lv : Nat} {rm rf rt ro E D C : Nat → Nat}
theorem xw_isFull {w q : Nat} (hK : K0 < 2 ^ 31) (hK' : K1 < 2 ^ 31) (hw : w < 32) (hq : q < 2) (h1 : cd_cp K0 K1 q ≤ wk_len w → post 1) (h0 : ¬ cd_cp K0 K1 q ≤ wk_len w → post 0) : wpX_isFull post (nI S, nI K0, nI K1, nI R, 9, nI cu, nI g, nI n, nI N, nI M, nI an, nI fl, nI lv, nA rm, nA rf, nA rt, nA ro, nA E, nA D, nA C) (nI w) (nI q) := by
  have l4 := wk_len4 w hw
  rcases cd_q hq with rfl | rfl
  · refine br_t rfl ?_
    unfold wX_isFull_15
    exact xw_length hw (pk_lt (wk_len w) K0 (fun z => h0 (fun y => by rw [cd_cp0] at y; omega)) (fun z => h1 z))
  · refine br_f ba_10 ?_
    unfold wX_isFull_15
    exact xw_length hw (pk_lt (wk_len w) K1 (fun z => h0 (fun y => by rw [cd_cp1] at y; omega)) (fun z => h1 z))
theorem xw_dist2 {c : Nat} (hN : N ≤ 945) (hc : c < 2 ^ 31) (hE : ∀ j, j < N → E j < 2 ^ 31)
    (h1 : ∀ j, j < N → cd_le (E j) c → (∀ i, i < j → ¬ cd_le (E i) c) → post (nI (D j))) (h0 : (∀ j, j < N → ¬ cd_le (E j) c) → post (-3)) :
    ∀ d i, i + d = N → (∀ k, k < i → ¬ cd_le (E k) c) → wX_distanceOf_2 post (nI c) (nI S) (nI K0) (nI K1) (nI R) 9 (nI cu) (nI g) (nI n) (nI N) (nI M) (nI an) (nI fl) (nI lv) (nA rm) (nA rf) (nA rt) (nA ro) (nA E) (nA D) (nA C) (d + 1) (nI i) := by
  intro d
  induction d with
  | zero =>
    intro i hi hk
    have e : i = N := by omega
    exact br_t (nI_le (by omega) (by omega)) (h0 (fun j hj => hk j (by omega)))
  | succ d ih =>
    intro i hi hk
    refine br_f (nI_ge (by omega) (by omega)) ⟨vp_in_nI (by omega) (by omega), ?_⟩
    have e : nA E (nI i).toNatClampNeg = nI (E i) := ba_at (by omega)
    rw [e]
    refine xw_isBelow (hE i (by omega)) hc (fun z => br_f ba_10 ⟨vp_in_nI (by omega) (by omega), ?_⟩) (fun z => br_t rfl (nm_r (nI_1 i) (ih (i + 1) (by omega) ?_)))
    · have e2 : nA D (nI i).toNatClampNeg = nI (D i) := ba_at (by omega)
      rw [e2]
      exact h1 i (by omega) z hk
    · intro k hk'
      rcases Nat.lt_or_ge k i with y | y
      · exact hk k y
      · have e : k = i := by omega
        rw [e]; exact z
theorem xw_distR {c : Nat} (hN : N ≤ 945) (hc : c < 2 ^ 31) (hE : ∀ j, j < N → E j < 2 ^ 31)
    (h1 : ∀ j, j < N → cd_le (E j) c → (∀ i, i < j → ¬ cd_le (E i) c) → post (nI (D j))) (h0 : (∀ j, j < N → ¬ cd_le (E j) c) → post (-3)) : wpX_distanceOf post (nI S, nI K0, nI K1, nI R, 9, nI cu, nI g, nI n, nI N, nI M, nI an, nI fl, nI lv, nA rm, nA rf, nA rt, nA ro, nA E, nA D, nA C) (nI c) :=
  ⟨N + 1, xw_dist2 hN hc hE h1 h0 N 0 (by omega) (fun k hk => by omega)⟩
theorem xw_memR {c : Nat} (hN : N ≤ 945) (hc : c < 2 ^ 31) (hE : ∀ j, j < N → E j < 2 ^ 31) (hD : ∀ j, j < N → D j < 2 ^ 31)
    (h1 : (∃ j, j < N ∧ cd_le (E j) c) → post 1) (h0 : (∀ j, j < N → ¬ cd_le (E j) c) → post 0) : wpX_isMember post (nI S, nI K0, nI K1, nI R, 9, nI cu, nI g, nI n, nI N, nI M, nI an, nI fl, nI lv, nA rm, nA rf, nA rt, nA ro, nA E, nA D, nA C) (nI c) := by
  unfold wpX_isMember
  dsimp only
  refine xw_distR hN hc hE (fun j hj hl _ => br_f (ba_m3 (hD j hj)) (h1 ⟨j, hj, hl⟩)) (fun z => br_t rfl (h0 z))
/-- the rule's minimal predecessor -/
theorem xw_mp {c r : Nat} (hp : cd_Pm S K0 K1 R) (hV : cd_V S K0 K1 c) (hr : r < 12) (hok : ru_ok S (rm r) (rf r) (rt r) (ro r)) (h : post (nI (ru_mp K0 K1 (rm r) (rf r) (rt r) (ro r) c))) : wpX_minimalPredecessor post (nI S, nI K0, nI K1, nI R, 9, nI cu, nI g, nI n, nI N, nI M, nI an, nI fl, nI lv, nA rm, nA rf, nA rt, nA ro, nA E, nA D, nA C) (nI c) (nI r) := by
  have hc := (cd_lt hp hV).1
  obtain ⟨hm, hf, ht, ho⟩ := hok
  have hS := hp.2.1
  have i12 : vp_in (nI r) 12 := vp_in_nI hr (by omega)
  have em : nA rm (nI r).toNatClampNeg = nI (rm r) := ba_at (by omega)
  have ef : nA rf (nI r).toNatClampNeg = nI (rf r) := ba_at (by omega)
  have et : nA rt (nI r).toNatClampNeg = nI (rt r) := ba_at (by omega)
  have eo : nA ro (nI r).toNatClampNeg = nI (ro r) := ba_at (by omega)
  have hq := ru_q2 (ro r)
  have hl := ru_l2 (ro r)
  have hss := cd_Vss hV hm hf (by omega)
  have hss1 := (cd_lt hp hss).1
  have hw := cd_Vw hV hq
  have hw16 := cd_w16 (c := c) hq
  have st3 : cd_st c (rm r) < 3 := by have := cd_Vt hV hm; omega
  unfold ru_mp at h
  refine ⟨i12, nm_r em (xw_stateOf (by omega) hm ⟨i12, ?_⟩)⟩
  refine pk_eq (cd_st c (rm r)) (rt r) (fun e => ⟨i12, ?_⟩) (fun e => ?_) rfl et (by omega) (by omega)
  · rw [if_pos e] at h
    rw [ef]
    refine xw_withState hc hm (by omega) ⟨i12, nm_r eo ?_⟩
    refine pk_eq (ro r) 0 (fun z => ?_) (fun z => ?_)
    · rw [if_pos z] at h; exact h
    · rw [if_neg z] at h
      refine xw_queueOf (by omega) (by omega) (xw_letterOf (by omega) (by omega) (xw_wordOf (by omega) hq ?_))
      refine pk_lt (ro r) 5 (fun y => ?_) (fun y => ?_)
      · rw [if_pos y] at h
        have stay : ¬ (1 < cd_wd c (ru_q (ro r)) ∧ cd_wd c (ru_q (ro r)) % 2 = ru_l (ro r)) → wX_minimalPredecessor_117 post (nI (cd_ss c (rm r) (rf r))) (nI (ru_q (ro r))) (nI (cd_wd c (ru_q (ro r)))) (nI S) (nI K0) (nI K1) (nI R) 9 (nI cu) (nI g) (nI n) (nI N) (nI M) (nI an) (nI fl) (nI lv) (nA rm) (nA rf) (nA rt) (nA ro) (nA E) (nA D) (nA C) := by
          intro x
          rw [if_neg x] at h
          exact br_t rfl h
        refine pk_le (cd_wd c (ru_q (ro r))) 1 (fun x => stay (by omega)) (fun x => ?_)
        refine pk_eq (cd_wd c (ru_q (ro r)) % 2) (ru_l (ro r)) (fun w => ?_) (fun w => stay (fun v => w v.2)) (ba_a1 (by omega))
        rw [if_pos ⟨x, w⟩] at h
        refine br_f ba_10 ?_
        rw [ba_s1 (by omega)]
        exact xw_withWord hss1 hq (cd_fwc hp hq (by omega)) h
      · rw [if_neg (by omega)] at h
        unfold wpX_beforeReceive
        dsimp only
        refine xw_isFull (by have := hp.2.2.2.1; omega) (by have := hp.2.2.2.2.2.1; omega) (by omega) hq (fun x => br_f ba_10 ?_) (fun x => br_t rfl ?_)
        · rw [if_pos x] at h; exact h
        · rw [if_neg x] at h
          have b8 := (ru_nf hp hq x).2
          obtain ⟨p1, p2, p3, p4, p5⟩ := wk_q2 _ b8 _ hl hw.1
          refine xw_prepend hw16 hw.1 hl (xw_withWord hss1 hq (cd_fwc hp hq ?_) h)
          rw [wk_fit _ p3 _ (cd_cpb hp hq).2.1 (by omega)]; omega
  · rw [if_neg e] at h; exact h
theorem xw_isEnabled {c r : Nat} (hp : cd_Pm S K0 K1 R) (hV : cd_V S K0 K1 c) (hr : r < 12) (hok : ru_ok S (rm r) (rf r) (rt r) (ro r))
    (h1 : ru_en (rm r) (rf r) (ro r) c → post 1) (h0 : ¬ ru_en (rm r) (rf r) (ro r) c → post 0) : wpX_isEnabled post (nI S, nI K0, nI K1, nI R, 9, nI cu, nI g, nI n, nI N, nI M, nI an, nI fl, nI lv, nA rm, nA rf, nA rt, nA ro, nA E, nA D, nA C) (nI c) (nI r) := by
  have hc := (cd_lt hp hV).1
  obtain ⟨hm, hf, ht, ho⟩ := hok
  have hS := hp.2.1
  have i12 : vp_in (nI r) 12 := vp_in_nI hr (by omega)
  have em : nA rm (nI r).toNatClampNeg = nI (rm r) := ba_at (by omega)
  have ef : nA rf (nI r).toNatClampNeg = nI (rf r) := ba_at (by omega)
  have eo : nA ro (nI r).toNatClampNeg = nI (ro r) := ba_at (by omega)
  have hq := ru_q2 (ro r)
  have hw16 := cd_w16 (c := c) hq
  have st3 : cd_st c (rm r) < 3 := by have := cd_Vt hV hm; omega
  refine ⟨i12, ?_⟩
  rw [em]
  refine xw_stateOf (by omega) hm ⟨i12, ?_⟩
  refine pk_eq (cd_st c (rm r)) (rf r) (fun e => ⟨i12, nm_r eo ?_⟩) (fun e => h0 (fun z => e z.1)) rfl ef (by omega) (by omega)
  refine pk_le 5 (ro r) (fun z => ?_) (fun z => h1 ⟨e, Or.inl z⟩)
  refine xw_queueOf (by omega) (by omega) (xw_wordOf (by omega) hq (xw_length (by omega) ?_))
  have l3 := wk_len3 _ hw16
  have len2 : ∀ w, w < 16 → (1 ≤ wk_len w ↔ 2 ≤ w) := by decide +kernel
  have l2 := len2 _ hw16
  refine pk_le (wk_len (cd_wd c (ru_q (ro r)))) 0 (fun y => h0 ?_) (fun y => ?_)
  · rintro ⟨-, x | x⟩
    · omega
    · have := l2.mpr x.1; omega
  · refine xw_letterOf (by omega) (by omega) ?_
    refine pk_eq (wk_hd (cd_wd c (ru_q (ro r))) 0) (ru_l (ro r)) (fun x => h1 ⟨e, Or.inr ⟨l2.mp y, x⟩⟩) (fun x => h0 ?_) (ba_hd0 _ (by omega) y) rfl (by have := wk_hd2 (cd_wd c (ru_q (ro r))) 0; omega) (by have := ru_l2 (ro r); omega)
    rintro ⟨-, w | w⟩
    · omega
    · exact x w.2
theorem xw_drops {c r : Nat} (hp : cd_Pm S K0 K1 R) (hV : cd_V S K0 K1 c) (hr : r < 12) (hok : ru_ok S (rm r) (rf r) (rt r) (ro r))
    (h1 : 1 ≤ ro r → ro r ≤ 4 → cd_cp K0 K1 (ru_q (ro r)) ≤ wk_len (cd_wd c (ru_q (ro r))) → post 1)
    (h0 : ¬ (1 ≤ ro r ∧ ro r ≤ 4 ∧ cd_cp K0 K1 (ru_q (ro r)) ≤ wk_len (cd_wd c (ru_q (ro r)))) → post 0) : wpX_dropsLetter post (nI S, nI K0, nI K1, nI R, 9, nI cu, nI g, nI n, nI N, nI M, nI an, nI fl, nI lv, nA rm, nA rf, nA rt, nA ro, nA E, nA D, nA C) (nI c) (nI r) := by
  have hc := (cd_lt hp hV).1
  have ho := hok.2.2.2
  have i12 : vp_in (nI r) 12 := vp_in_nI hr (by omega)
  have eo : nA ro (nI r).toNatClampNeg = nI (ro r) := ba_at (by omega)
  have hq := ru_q2 (ro r)
  have hw16 := cd_w16 (c := c) hq
  refine ⟨i12, nm_r eo ?_⟩
  refine pk_lt (ro r) 1 (fun z => h0 (fun y => by omega)) (fun z => ?_)
  refine pk_le (ro r) 4 (fun y => ?_) (fun y => h0 (fun x => by omega))
  refine xw_queueOf (by omega) (by omega) (xw_wordOf (by omega) hq ?_)
  exact xw_isFull (by have := hp.2.2.2.1; omega) (by have := hp.2.2.2.2.2.1; omega) (by omega) hq (fun x => ⟨narrow_b1, h1 z y x⟩) (fun x => ⟨narrow_b0, h0 (fun w => x w.2.2)⟩)
theorem xw_fired {c r : Nat} (hp : cd_Pm S K0 K1 R) (hV : cd_V S K0 K1 c) (hr : r < 12) (hok : ru_ok S (rm r) (rf r) (rt r) (ro r)) (he : ru_en (rm r) (rf r) (ro r) c)
    (h : post (nI (ru_fr K0 K1 (rm r) (rt r) (ro r) c))) : wpX_fired post (nI S, nI K0, nI K1, nI R, 9, nI cu, nI g, nI n, nI N, nI M, nI an, nI fl, nI lv, nA rm, nA rf, nA rt, nA ro, nA E, nA D, nA C) (nI c) (nI r) := by
  have hc := (cd_lt hp hV).1
  obtain ⟨hm, hf, ht, ho⟩ := hok
  have hS := hp.2.1
  have i12 : vp_in (nI r) 12 := vp_in_nI hr (by omega)
  have em : nA rm (nI r).toNatClampNeg = nI (rm r) := ba_at (by omega)
  have et : nA rt (nI r).toNatClampNeg = nI (rt r) := ba_at (by omega)
  have eo : nA ro (nI r).toNatClampNeg = nI (ro r) := ba_at (by omega)
  have hq := ru_q2 (ro r)
  have hl := ru_l2 (ro r)
  have hw := cd_Vw hV hq
  have hw16 := cd_w16 (c := c) hq
  have hss1 := (cd_lt hp (cd_Vss hV hm ht (by omega))).1
  unfold ru_fr at h
  refine ⟨i12, i12, ?_⟩
  rw [em, et]
  refine xw_withState hc hm (by omega) ⟨i12, nm_r eo ?_⟩
  refine pk_eq (ro r) 0 (fun z => ?_) (fun z => ?_)
  · rw [if_pos z] at h; exact h
  · rw [if_neg z] at h
    refine xw_queueOf (by omega) (by omega) (xw_wordOf (by omega) hq ?_)
    refine pk_lt (ro r) 5 (fun y => ?_) (fun y => ?_)
    · rw [if_pos y] at h
      refine xw_isFull (by have := hp.2.2.2.1; omega) (by have := hp.2.2.2.2.2.1; omega) (by omega) hq (fun x => br_f ba_10 ?_) (fun x => br_t rfl ?_)
      · rw [if_pos x] at h
        unfold wX_fired_92
        refine xw_withWord hss1 hq (cd_fwd (c := c) hq) ?_
        have e := cd_sws (c := cd_ss c (rm r) (rt r)) hq
        rw [cd_wt hm hq] at e
        rw [e]; exact h
      · rw [if_neg x] at h
        have b8 := ru_nf hp hq x
        have h5 : 2 * cd_wd c (ru_q (ro r)) + ru_l (ro r) < 2 ^ (cd_cp K0 K1 (ru_q (ro r)) + 1) := by
          have := b8.1
          rw [Nat.pow_succ]; omega
        refine xw_letterOf (by omega) (by omega) (nm_r (e' := nI (2 * cd_wd c (ru_q (ro r)) + ru_l (ro r))) ?_ ?_)
        · show nI 2 * nI _ + nI _ = _
          rw [pk_mul, nI_add]
        · unfold wX_fired_92
          exact xw_withWord hss1 hq (cd_fwc hp hq h5) h
    · rw [if_neg (by omega)] at h
      have g1 : 2 ≤ cd_wd c (ru_q (ro r)) := by
        rcases he.2 with x | x
        · omega
        · exact x.1
      have l0 : 0 < wk_len (cd_wd c (ru_q (ro r))) := by have := (wk_q3 _ hw16 g1).2.1; omega
      refine xw_without (i := 0) (by omega) l0 ?_
      unfold wX_fired_92
      exact xw_withWord hss1 hq (cd_lsf hq l0) h
theorem xw_lost {u : SX} {c q i : Nat} (hc : c < 1536) (hq : q < 2) (hi : i < wk_len (cd_wd c q)) (h : post (nI (cd_ls c q i))) : wpX_lost post u (nI c) (nI q) (nI i) := by
  obtain ⟨z1, z2, z3, z4, z5, z6, z7, z8, z9, z10, z11, z12, z13, z14, z15, z16, z17, z18, z19, z20⟩ := u
  unfold wpX_lost
  dsimp only
  exact xw_wordOf (by omega) hq (xw_without (by have := cd_w16 (c := c) hq; omega) hi (xw_withWord hc hq (cd_lsf hq hi) h))
end
end
section
/-! the reference's small methods -/
def yw_cf (S A B : Nat) (p0 p1 p2 p3 : Int32) : Prop := (0 ≤ p0.toInt ∧ p0.toInt < S) ∧ (0 ≤ p1.toInt ∧ p1.toInt < S) ∧ (1 ≤ p2.toInt ∧ p2.toInt < A) ∧ (1 ≤ p3.toInt ∧ p3.toInt < B)
theorem ba_lt0 {p : Int32} : p < 0 ↔ p.toInt < 0 := by
  rw [Int32.lt_iff_toInt_lt, show (0 : Int32).toInt = 0 from by decide]
theorem ba_lt1 {p : Int32} : p < 1 ↔ p.toInt < 1 := by
  rw [Int32.lt_iff_toInt_lt, show (1 : Int32).toInt = 1 from by decide]
theorem ba_ge {p : Int32} {S : Nat} (hS : S < 2 ^ 31) : nI S ≤ p ↔ (S : Int) ≤ p.toInt := by
  rw [Int32.le_iff_toInt_le, nI_toInt hS]
theorem ba_of {p : Int32} (h : 0 ≤ p.toInt) : ∃ a : Nat, p = nI a ∧ (a : Int) = p.toInt := by
  obtain ⟨a, ha, e⟩ := nI_of (x := p) (fun z => by rw [ba_lt0] at z; omega)
  refine ⟨a, e, ?_⟩
  rw [e, nI_toInt ha]
theorem yw_cfx {S A B : Nat} {p0 p1 p2 p3 : Int32} (h : yw_cf S A B p0 p1 p2 p3) : ∃ a b v w : Nat, p0 = nI a ∧ p1 = nI b ∧ p2 = nI v ∧ p3 = nI w ∧ a < S ∧ b < S ∧ 1 ≤ v ∧ v < A ∧ 1 ≤ w ∧ w < B := by
  obtain ⟨⟨h1, h2⟩, ⟨h3, h4⟩, ⟨h5, h6⟩, h7, h8⟩ := h
  obtain ⟨a, ea, ia⟩ := ba_of h1
  obtain ⟨b, eb, ib⟩ := ba_of h3
  obtain ⟨v, ev, iv⟩ := ba_of (p := p2) (by omega)
  obtain ⟨w, ew, iw⟩ := ba_of (p := p3) (by omega)
  exact ⟨a, b, v, w, ea, eb, ev, ew, by omega, by omega, by omega, by omega, by omega, by omega⟩
theorem yw_cfV {S K0 K1 R a b v w : Nat} (hp : cd_Pm S K0 K1 R) (ha : a < S) (hb : b < S) (hv1 : 1 ≤ v) (hv : v < 2 ^ (K0 + 1)) (hw1 : 1 ≤ w) (hw : w < 2 ^ (K1 + 1)) : cd_V S K0 K1 (((a * 4 + b) * 16 + v) * 8 + w) := by
  obtain ⟨-, h1, -, h2, -, h3, -⟩ := hp
  have q1 := wk_pw K0 (by omega)
  have q2 := wk_pw2 K1 (by omega)
  refine ⟨?_, ?_, ?_, ?_, ?_, ?_⟩
  · have e : (((a * 4 + b) * 16 + v) * 8 + w) / 512 = a := by omega
    rw [e]; exact ha
  · have e : (((a * 4 + b) * 16 + v) * 8 + w) / 128 % 4 = b := by omega
    rw [e]; exact hb
  · have e : (((a * 4 + b) * 16 + v) * 8 + w) / 8 % 16 = v := by omega
    rw [e]; exact hv1
  · have e : (((a * 4 + b) * 16 + v) * 8 + w) / 8 % 16 = v := by omega
    rw [e]; exact hv
  · have e : (((a * 4 + b) * 16 + v) * 8 + w) % 8 = w := by omega
    rw [e]; exact hw1
  · have e : (((a * 4 + b) * 16 + v) * 8 + w) % 8 = w := by omega
    rw [e]; exact hw
theorem yw_pk (a b v w : Nat) : ((((((nI a * 4) + nI b) * 16) + nI v) * 8) + nI w) = nI (((a * 4 + b) * 16 + v) * 8 + w) := by
  show ((((((nI a * nI 4) + nI b) * nI 16) + nI v) * nI 8) + nI w) = _
  rw [pk_mul, nI_add, pk_mul, nI_add, pk_mul, nI_add]
theorem ba_yq : ∀ o, o < 9 → 1 ≤ o → ((nI o - 1) / 2) - ((nI o - 1) / 2) / 2 * 2 = nI (ru_q o) := by decide +kernel
theorem ba_yl : ∀ o, o < 9 → 1 ≤ o → (nI o - 1) - (nI o - 1) / 2 * 2 = nI (ru_l o) := by decide +kernel
theorem ba_d512 {c : Nat} (h : c < 2 ^ 31) : nI c / 512 = nI (c / 512) := pk_div (d := 512) h (by decide) (by decide)
theorem ba_d128 {c : Nat} (h : c < 2 ^ 31) : nI c / 128 = nI (c / 128) := pk_div (d := 128) h (by decide) (by decide)
theorem ba_d8 {c : Nat} (h : c < 2 ^ 31) : nI c / 8 = nI (c / 8) := pk_div (d := 8) h (by decide) (by decide)
theorem ba_d256 {c : Nat} (h : c < 2 ^ 31) : nI c / 256 = nI (c / 256) := pk_div (d := 256) h (by decide) (by decide)
theorem ba_d64 {c : Nat} (h : c < 2 ^ 31) : nI c / 64 = nI (c / 64) := pk_div (d := 64) h (by decide) (by decide)
theorem ba_d16 {c : Nat} (h : c < 2 ^ 31) : nI c / 16 = nI (c / 16) := pk_div (d := 16) h (by decide) (by decide)
theorem ba_r4 {c : Nat} (h : c < 2 ^ 31) : nI c - nI c / 4 * 4 = nI (c % 4) := pk_rem (d := 4) h (by decide) (by decide)
theorem ba_r16 {c : Nat} (h : c < 2 ^ 31) : nI c - nI c / 16 * 16 = nI (c % 16) := pk_rem (d := 16) h (by decide) (by decide)
theorem ba_r8 {c : Nat} (h : c < 2 ^ 31) : nI c - nI c / 8 * 8 = nI (c % 8) := pk_rem (d := 8) h (by decide) (by decide)
theorem ba_r1284 {c : Nat} (h : c < 2 ^ 31) : (nI c / 128) - (nI c / 128) / 4 * 4 = nI (c / 128 % 4) := by rw [ba_d128 h, ba_r4 (by omega)]
theorem ba_r816 {c : Nat} (h : c < 2 ^ 31) : (nI c / 8) - (nI c / 8) / 16 * 16 = nI (c / 8 % 16) := by rw [ba_d8 h, ba_r16 (by omega)]
theorem ba_r644 {c : Nat} (h : c < 2 ^ 31) : (nI c / 64) - (nI c / 64) / 4 * 4 = nI (c / 64 % 4) := by rw [ba_d64 h, ba_r4 (by omega)]
theorem ba_r164 {c : Nat} (h : c < 2 ^ 31) : (nI c / 16) - (nI c / 16) / 4 * 4 = nI (c / 16 % 4) := by rw [ba_d16 h, ba_r4 (by omega)]
theorem ba_mv {x a b k : Nat} : nI (x + a * k) + (nI b - nI a) * nI k = nI (x + b * k) := by
  rw [← nI_add, ← pk_mul, ← nI_add, ← pk_mul]
  generalize nI x = X
  generalize nI a = A
  generalize nI b = B
  generalize nI k = K
  grind
theorem ba_ysw {c q w : Nat} (hq : q < 2) : (q = 0 → nI c + ((nI w - nI (cd_wd c 0)) * 8) = nI (cd_sw c 0 w)) ∧ (q = 1 → nI c + ((nI w - nI (cd_wd c 1)) * 1) = nI (cd_sw c 1 w)) := by
  constructor
  · intro _
    have e : c = (c / 128 * 128 + c % 8) + cd_wd c 0 * 8 := by rw [cd_wd0]; omega
    have z := ba_mv (x := c / 128 * 128 + c % 8) (a := cd_wd c 0) (b := w) (k := 8)
    rw [← e] at z
    refine Eq.trans z (congrArg nI ?_)
    rw [cd_sw0]; omega
  · intro _
    have e : c = c / 8 * 8 + cd_wd c 1 * 1 := by rw [cd_wd1]; omega
    have z := ba_mv (x := c / 8 * 8) (a := cd_wd c 1) (b := w) (k := 1)
    rw [← e] at z
    refine Eq.trans z (congrArg nI ?_)
    rw [cd_sw1]; omega
theorem ba_yss0 {c f t : Nat} (hf : cd_st c 0 = f) : nI c + (nI t - nI f) * 512 = nI (cd_ss c 0 t) := by
  rw [cd_st0] at hf
  have z := ba_mv (x := c % 512) (a := f) (b := t) (k := 512)
  rw [show c % 512 + f * 512 = c from by omega] at z
  refine Eq.trans z (congrArg nI ?_)
  rw [cd_ss0]; omega
theorem ba_yss1 {c f t : Nat} (hf : cd_st c 1 = f) : nI c + (nI t - nI f) * 128 = nI (cd_ss c 1 t) := by
  rw [cd_st1] at hf
  have z := ba_mv (x := c / 512 * 512 + c % 128) (a := f) (b := t) (k := 128)
  rw [show c / 512 * 512 + c % 128 + f * 128 = c from by omega] at z
  refine Eq.trans z (congrArg nI ?_)
  rw [cd_ss1]; omega
theorem ba_n512 : ¬ (512 : Int32) = 0 := by decide
theorem ba_n256 : ¬ (256 : Int32) = 0 := by decide
theorem ba_n128 : ¬ (128 : Int32) = 0 := by decide
theorem ba_n64 : ¬ (64 : Int32) = 0 := by decide
theorem ba_n16 : ¬ (16 : Int32) = 0 := by decide
theorem ba_n8 : ¬ (8 : Int32) = 0 := by decide
theorem ba_n4 : ¬ (4 : Int32) = 0 := by decide
theorem ba_n2 : ¬ (2 : Int32) = 0 := by decide
section
variable {post : Int32 → Prop} {S K0 K1 R n g cu an : Nat} {rl ds : Nat → Nat}
theorem yw_valid {p0 p1 p2 p3 : Int32} (hp : cd_Pm S K0 K1 R) (h1 : yw_cf S (2 ^ (K0 + 1)) (2 ^ (K1 + 1)) p0 p1 p2 p3 → post 1) (h0 : ¬ yw_cf S (2 ^ (K0 + 1)) (2 ^ (K1 + 1)) p0 p1 p2 p3 → post 0) : wpY_valid post (nI S, nI K0, nI K1, nI R, nI n, nI g, nI cu, nI an, nA rl, nA ds) p0 p1 p2 p3 := by
  obtain ⟨-, g1, -, g2, -, g3, -⟩ := hp
  have q1 := wk_pw K0 (by omega)
  have q2 := wk_pw2 K1 (by omega)
  have e1 : (2 : Int32) <<< (nI K0 &&& 31) = nI (2 ^ (K0 + 1)) := ba_2K K0 (by omega)
  have e2 : (2 : Int32) <<< (nI K1 &&& 31) = nI (2 ^ (K1 + 1)) := ba_2K K1 (by omega)
  unfold wpY_valid
  dsimp only
  rw [e1, e2, ba_ge (by omega), ba_ge (by omega), ba_ge (by omega), ba_ge (by omega)]
  simp only [ba_lt0, ba_lt1]
  refine br_c (fun z => h0 (fun y => by have := y.1; omega)) (fun z1 => br_c (fun z => h0 (fun y => by have := y.1; omega)) (fun z2 => ?_))
  refine br_c (fun z => h0 (fun y => by have := y.2.1; omega)) (fun z3 => br_c (fun z => h0 (fun y => by have := y.2.1; omega)) (fun z4 => ?_))
  refine br_c (fun z => h0 (fun y => by have := y.2.2.1; omega)) (fun z5 => br_c (fun z => h0 (fun y => by have := y.2.2.1; omega)) (fun z6 => ?_))
  refine br_c (fun z => h0 (fun y => by have := y.2.2.2; omega)) (fun z7 => br_c (fun z => h0 (fun y => by have := y.2.2.2; omega)) (fun z8 => ?_))
  exact h1 ⟨⟨by omega, by omega⟩, ⟨by omega, by omega⟩, ⟨by omega, by omega⟩, by omega, by omega⟩
theorem yw_validCode {c : Nat} (hp : cd_Pm S K0 K1 R) (hc : c < 1536) (h1 : cd_V S K0 K1 c → post 1) (h0 : ¬ cd_V S K0 K1 c → post 0) : wpY_validCode post (nI S, nI K0, nI K1, nI R, nI n, nI g, nI cu, nI an, nA rl, nA ds) (nI c) := by
  refine ⟨ba_n512, ba_n128, ba_n4, ba_n8, ba_n16, ba_n8, ?_⟩
  rw [ba_d512 (by omega), ba_r1284 (by omega), ba_r816 (by omega), ba_r8 (by omega)]
  have ti : ∀ x, x < 2 ^ 31 → (nI x).toInt = (x : Int) := fun x hx => nI_toInt hx
  have cf : yw_cf S (2 ^ (K0 + 1)) (2 ^ (K1 + 1)) (nI (c / 512)) (nI (c / 128 % 4)) (nI (c / 8 % 16)) (nI (c % 8)) ↔ cd_V S K0 K1 c := by
    unfold yw_cf cd_V
    rw [ti _ (by omega), ti _ (by omega), ti _ (by omega), ti _ (by omega)]
    omega
  exact yw_valid hp (fun z => ⟨narrow_b1, h1 (cf.mp z)⟩) (fun z => ⟨narrow_b0, h0 (fun y => z (cf.mpr y))⟩)
theorem yw_length {u : SY} {w : Nat} (hw : w < 2 ^ 31) (h : post (nI (wk_len w))) : wpY_length post u (nI w) := by
  obtain ⟨z1, z2, z3, z4, z5, z6, z7, z8, z9, z10⟩ := u
  refine pk_le 2 w (fun z => pk_le 4 w (fun y => pk_le 8 w (fun x => pk_le 16 w (fun v => ?_) (fun v => ?_)) (fun x => ?_)) (fun y => ?_)) (fun z => ?_)
  · rw [show wk_len w = 4 from by unfold wk_len; rw [if_neg (by omega), if_neg (by omega), if_neg (by omega), if_neg (by omega)]] at h
    exact h
  · rw [show wk_len w = 3 from by unfold wk_len; rw [if_neg (by omega), if_neg (by omega), if_neg (by omega), if_pos (by omega)]] at h
    exact h
  · rw [show wk_len w = 2 from by unfold wk_len; rw [if_neg (by omega), if_neg (by omega), if_pos (by omega)]] at h
    exact h
  · rw [show wk_len w = 1 from by unfold wk_len; rw [if_neg (by omega), if_pos (by omega)]] at h
    exact h
  · rw [show wk_len w = 0 from by unfold wk_len; rw [if_pos (by omega)]] at h
    exact h
theorem yw_letterAt {u : SY} {w i : Nat} (hw : w < 32) (hi : i < wk_len w) (h : post (nI (wk_hd w i))) : wpY_letterAt post u (nI w) (nI i) := by
  obtain ⟨z1, z2, z3, z4, z5, z6, z7, z8, z9, z10⟩ := u
  unfold wpY_letterAt
  dsimp only
  refine yw_length (by omega) ?_
  rw [ba_hd w hw i (by have := wk_len4 w hw; omega) hi]
  exact h
theorem yw_sub14 {z1 z2 z3 z4 z5 z6 z7 z8 : Int32} {z9 z10 : Nat → Int32} {J2 : Int32 → Prop} {v w m : Nat} (hv : v < 2 ^ 31) (hw : w < 16) (hm : m < 8) : ∀ d i k, i + d = wk_len w → k < 2 ^ (i + 1) → (wk_k m w d i k = v → post 1) → (wk_k m w d i k ≠ v → J2 (nI (m + 1))) → wY_subword_14 post J2 (nI v) (nI w) (nI m) z1 z2 z3 z4 z5 z6 z7 z8 z9 z10 (d + 1) (nI k) (nI i) := by
  have l3 := wk_len3 w hw
  have kb : ∀ i k, i ≤ 3 → k < 2 ^ (i + 1) → k < 16 := by
    intro i k hi hk
    have : 2 ^ (i + 1) ≤ 2 ^ 4 := Nat.pow_le_pow_right (by decide) (by omega)
    omega
  intro d
  induction d with
  | zero =>
    intro i k hi hk h1 h0
    have hk16 := kb i k (by omega) hk
    unfold wY_subword_14
    refine yw_length (by omega) (br_t (nI_le (by omega) (by omega)) ?_)
    unfold wY_subword_60
    exact pk_eq k v (fun e => h1 e) (fun e => nm_r (nI_1 m) (h0 e))
  | succ d ih =>
    intro i k hi hk h1 h0
    have hk16 := kb i k (by omega) hk
    unfold wk_k at h1 h0
    unfold wY_subword_14
    refine yw_length (by omega) (br_f (nI_ge (by omega) (by omega)) (br_f (nI_ge (b := 3) (a := i) (by omega) (by omega)) ?_))
    have e : (nI m >>> (nI i &&& 31)) &&& 1 = nI (m / 2 ^ i % 2) := by
      rw [ba_sh (by omega) (by omega), ba_a1 (Nat.lt_of_le_of_lt (Nat.div_le_self _ _) (by omega))]
    have hd := wk_hd2 w i
    refine pk_eq (m / 2 ^ i % 2) 1 (fun z => ?_) (fun z => nm_r (nI_1 i) ?_) e rfl (by omega) (by omega)
    · rw [if_pos z] at h1 h0
      refine yw_letterAt (by omega) (by omega) (nm_r (e' := nI (k * 2 + wk_hd w i)) ?_ (nm_r (nI_1 i) ?_))
      · show nI k * nI 2 + nI _ = _
        rw [pk_mul, nI_add]
      · exact ih (i + 1) _ (by omega) (by rw [Nat.pow_succ]; omega) h1 h0
    · rw [if_neg z] at h1 h0
      exact ih (i + 1) k (by omega) (by rw [Nat.pow_succ]; omega) h1 h0
theorem yw_sub2 {z1 z2 z3 z4 z5 z6 z7 z8 : Int32} {z9 z10 : Nat → Int32} {v w : Nat} (hv : v < 2 ^ 31) (hw : w < 16) (h1 : (∃ m, m < 8 ∧ wk_k m w (wk_len w) 0 1 = v) → post 1) (h0 : ¬ (∃ m, m < 8 ∧ wk_k m w (wk_len w) 0 1 = v) → post 0) :
    ∀ d m, m + d = 8 → (∀ k, k < m → wk_k k w (wk_len w) 0 1 ≠ v) → wY_subword_2 post (nI v) (nI w) z1 z2 z3 z4 z5 z6 z7 z8 z9 z10 (d + 1) (nI m) := by
  intro d
  induction d with
  | zero =>
    intro m hm hk
    exact br_t (nI_le (a := 8) (by omega) (by omega)) (h0 (fun ⟨k, y1, y2⟩ => hk k (by omega) y2))
  | succ d ih =>
    intro m hm hk
    refine br_f (nI_ge (b := 8) (by omega) (by omega)) ⟨wk_len w + 1, ?_⟩
    refine yw_sub14 hv hw (by omega) (wk_len w) 0 1 (by omega) (by decide) (fun e => h1 ⟨m, by omega, e⟩) (fun e => ih (m + 1) (by omega) (fun k hk' => ?_))
    rcases Nat.lt_or_ge k m with y | y
    · exact hk k y
    · have e2 : k = m := by omega
      rw [e2]; exact e
theorem yw_subword {u : SY} {v w : Nat} (hv : v < 16) (hw : w < 16) (h1 : wk_sb v w = true → post 1) (h0 : ¬ wk_sb v w = true → post 0) : wpY_subword post u (nI v) (nI w) := by
  obtain ⟨z1, z2, z3, z4, z5, z6, z7, z8, z9, z10⟩ := u
  have y := wk_y hv hw
  exact ⟨9, yw_sub2 (by omega) hw (fun z => h1 (y.mp z)) (fun z => h0 (fun x => z (y.mpr x))) 8 0 rfl (fun k hk => by omega)⟩
theorem yw_covers {c : Nat} (hg : g < 2 ^ 31) (hc : c < 2 ^ 31) (h1 : cd_le g c → post 1) (h0 : ¬ cd_le g c → post 0) : wpY_covers post (nI S, nI K0, nI K1, nI R, nI n, nI g, nI cu, nI an, nA rl, nA ds) (nI c) := by
  refine ⟨ba_n128, ba_n128, ?_⟩
  refine pk_eq (c / 128) (g / 128) (fun e => ⟨ba_n8, ba_n16, ba_n8, ba_n16, ?_⟩) (fun e => h0 (fun z => e z.1.symm)) (ba_d128 hc) (ba_d128 hg)
  rw [ba_r816 hg, ba_r816 hc]
  refine yw_subword (by omega) (by omega) (fun y => br_f ba_10 ⟨ba_n8, ba_n8, ?_⟩) (fun y => br_t rfl (h0 (fun z => y z.2.1)))
  rw [ba_r8 hg, ba_r8 hc]
  exact yw_subword (by omega) (by omega) (fun x => br_f ba_10 (h1 ⟨e.symm, y, x⟩)) (fun x => br_t rfl (h0 (fun z => x z.2.2)))
theorem yw_word {u : SY} {c q : Nat} (hc : c < 2 ^ 31) (hq : q < 2) (h : post (nI (cd_wd c q))) : wpY_word post u (nI c) (nI q) := by
  obtain ⟨z1, z2, z3, z4, z5, z6, z7, z8, z9, z10⟩ := u
  rcases cd_q hq with rfl | rfl
  · refine br_t rfl ⟨ba_n8, ba_n16, ?_⟩
    rw [ba_r816 hc]; exact h
  · refine br_f ba_10 ⟨ba_n8, ?_⟩
    rw [ba_r8 hc]; exact h
theorem yw_without {u : SY} {w i : Nat} (hw : w < 32) (hi : i < wk_len w) (h : post (nI (wk_wo w i))) : wpY_without post u (nI w) (nI i) := by
  obtain ⟨z1, z2, z3, z4, z5, z6, z7, z8, z9, z10⟩ := u
  unfold wpY_without
  dsimp only
  refine yw_length (by omega) (nm_e ?_)
  rw [ba_wy w hw i (by have := wk_len4 w hw; omega) hi]; exact h
theorem yw_withWord {u : SY} {c q w : Nat} (hc : c < 2 ^ 31) (hq : q < 2) (h : post (nI (cd_sw c q w))) : wpY_withWord post u (nI c) (nI q) (nI w) := by
  obtain ⟨z1, z2, z3, z4, z5, z6, z7, z8, z9, z10⟩ := u
  unfold wpY_withWord
  dsimp only
  refine yw_word hc hq ?_
  have e := ba_ysw (c := c) (w := w) hq
  rcases cd_q hq with rfl | rfl
  · refine br_t rfl ?_
    rw [e.1 rfl]; exact h
  · refine br_f ba_10 ?_
    rw [e.2 rfl]; exact h
theorem yw_loseAt {u : SY} {c q i : Nat} (hc : c < 2 ^ 31) (hq : q < 2) (hi : i < 2 ^ 31) (h1 : i < wk_len (cd_wd c q) → post (nI (cd_ls c q i))) (h0 : ¬ i < wk_len (cd_wd c q) → post (-1)) : wpY_loseAt post u (nI c) (nI q) (nI i) := by
  obtain ⟨z1, z2, z3, z4, z5, z6, z7, z8, z9, z10⟩ := u
  have hw := cd_w16 (c := c) hq
  have l3 := wk_len3 _ hw
  unfold wpY_loseAt
  dsimp only
  refine yw_word hc hq (yw_length (by omega) ?_)
  refine pk_lt i (wk_len (cd_wd c q)) (fun z => ?_) (fun z => h0 (by omega))
  exact yw_without (by omega) z (yw_withWord hc hq (h1 z))
theorem yw_state {u : SY} {c m : Nat} (hc : c < 2 ^ 31) (hm : m < 2) (h : post (nI (cd_st c m))) : wpY_state post u (nI c) (nI m) := by
  obtain ⟨z1, z2, z3, z4, z5, z6, z7, z8, z9, z10⟩ := u
  rcases cd_q hm with rfl | rfl
  · refine br_t rfl ⟨ba_n512, ?_⟩
    rw [ba_d512 hc]; exact h
  · refine br_f ba_10 ⟨ba_n128, ba_n4, ?_⟩
    rw [ba_r1284 hc]; exact h
theorem yw_full {c q : Nat} (hp : cd_Pm S K0 K1 R) (hc : c < 2 ^ 31) (hq : q < 2) (h1 : cd_cp K0 K1 q ≤ wk_len (cd_wd c q) → post 1) (h0 : ¬ cd_cp K0 K1 q ≤ wk_len (cd_wd c q) → post 0) : wpY_full post (nI S, nI K0, nI K1, nI R, nI n, nI g, nI cu, nI an, nA rl, nA ds) (nI c) (nI q) := by
  have hw := cd_w16 (c := c) hq
  obtain ⟨c1, c2, -⟩ := cd_cpb hp hq
  have f := wk_full _ hw _ c2 c1
  rw [f] at h1 h0
  unfold wpY_full
  dsimp only
  refine yw_word hc hq ?_
  have pw : 2 ^ cd_cp K0 K1 q ≤ 2 ^ 3 := Nat.pow_le_pow_right (by decide) (by omega)
  have e := ba_1K (cd_cp K0 K1 q) (by omega)
  rcases cd_q hq with rfl | rfl
  · refine br_t rfl ?_
    unfold wY_full_22
    exact pk_lt (cd_wd c 0) (2 ^ cd_cp K0 K1 0) (fun z => h0 (by omega)) (fun z => h1 z) rfl e
  · refine br_f ba_10 ?_
    unfold wY_full_22
    exact pk_lt (cd_wd c 1) (2 ^ cd_cp K0 K1 1) (fun z => h0 (by omega)) (fun z => h1 z) rfl e
theorem yw_after118 {c m f t o : Nat} {z0 : Int32} (hp : cd_Pm S K0 K1 R) (hV : cd_V S K0 K1 c) (hok : ru_ok S m f t o) (hst : cd_st c m = f)
    (hz : nI c + (nI t - nI f) * z0 = nI (cd_ss c m t)) (h1 : ru_en m f o c → post (nI (ru_fr K0 K1 m t o c))) (h0 : ¬ ru_en m f o c → post (-1)) :
    wY_after_118 post (nI c) (nI o) z0 (nI t - nI f) (nI c) (nI S) (nI K0) (nI K1) (nI R) (nI n) (nI g) (nI cu) (nI an) (nA rl) (nA ds) := by
  obtain ⟨hm, hf, ht, ho⟩ := hok
  have hS := hp.2.1
  have hc := (cd_lt hp hV).1
  have hq := ru_q2 o
  have hl := ru_l2 o
  have hw := cd_Vw hV hq
  have hw16 := cd_w16 (c := c) hq
  have hss1 := (cd_lt hp (cd_Vss hV hm ht (by omega))).1
  unfold wY_after_118
  refine nm_r hz ?_
  unfold ru_fr at h1
  refine pk_eq o 0 (fun z => ?_) (fun z => ⟨ba_n2, ba_n2, nm_r (ba_yq o (by omega) (by omega)) ⟨ba_n2, nm_r (ba_yl o (by omega) (by omega)) ?_⟩⟩)
  · rw [if_pos z] at h1
    exact h1 ⟨hst, Or.inl (by omega)⟩
  · rw [if_neg z] at h1
    refine yw_word (by omega) hq ?_
    refine pk_lt 4 o (fun y => ?_) (fun y => ?_)
    · rw [if_neg (by omega)] at h1
      refine pk_lt (cd_wd c (ru_q o)) 2 (fun x => h0 ?_) (fun x => ?_)
      · rintro ⟨-, v | v⟩
        · omega
        · omega
      · have l0 : 0 < wk_len (cd_wd c (ru_q o)) := by have := (wk_q3 _ hw16 x).2.1; omega
        refine yw_letterAt (i := 0) (by omega) l0 ?_
        refine pk_eq (wk_hd (cd_wd c (ru_q o)) 0) (ru_l o) (fun v => ?_) (fun v => h0 ?_) rfl rfl (by have := wk_hd2 (cd_wd c (ru_q o)) 0; omega) (by omega)
        · refine yw_loseAt (i := 0) (by omega) hq (by omega) (fun s => ?_) (fun s => ?_)
          · unfold cd_ls
            rw [cd_wt hm hq]
            exact h1 ⟨hst, Or.inr ⟨x, v⟩⟩
          · rw [cd_wt hm hq] at s
            exact absurd l0 s
        · rintro ⟨-, s | s⟩
          · omega
          · exact v s.2
    · have ne : ru_en m f o c := ⟨hst, Or.inl (by omega)⟩
      have h1 := h1 ne
      rw [if_pos (by omega)] at h1
      refine yw_full hp (by omega) hq (fun x => br_f ba_10 ?_) (fun x => br_t rfl ?_)
      · rw [if_pos x] at h1; exact h1
      · rw [if_neg x] at h1
        have e : (2 * nI (cd_wd c (ru_q o))) + nI (ru_l o) = nI (2 * cd_wd c (ru_q o) + ru_l o) := by
          show nI 2 * nI _ + nI _ = _
          rw [pk_mul, nI_add]
        rw [e]
        exact yw_withWord (by omega) hq h1
end
end
section
/-! the reference: moves, members, verdict, minimal members -/
def yw_rl (n : Nat) (rm rf rt ro rl : Nat → Nat) : Prop := ∀ r, r < n → rl r = ((rm r * 4 + rf r) * 4 + rt r) * 16 + ro r
theorem ba_yp : ∀ w, w < 16 → ∀ a, a < 2 → (nI w + ((1 : Int32) <<< (nI (wk_len w) &&& 31))) + (nI a <<< (nI (wk_len w) &&& 31)) = nI (wk_pp a w) := by decide +kernel
theorem yw_dec {S m f t o x : Nat} (hS : S ≤ 3) (hok : ru_ok S m f t o) (e : x = ((m * 4 + f) * 4 + t) * 16 + o) : x / 256 = m ∧ x / 64 % 4 = f ∧ x / 16 % 4 = t ∧ x % 16 = o ∧ x < 512 := by
  obtain ⟨h1, h2, h3, h4⟩ := hok
  omega
section
variable {post : Int32 → Prop} {S K0 K1 R n g cu an : Nat} {rl ds rm rf rt ro : Nat → Nat}
theorem yw_after {c mv : Nat} (hs : rc_S R S K0 K1 n g rm rf rt ro) (hrl : yw_rl n rm rf rt ro rl) (hV : cd_V S K0 K1 c) (hmv : mv < 24)
    (h1 : ∀ d k, bf_E S K0 K1 n g rm rf rt ro c mv d k → post (nI d)) (h0 : (∀ d k, ¬ bf_E S K0 K1 n g rm rf rt ro c mv d k) → post (-1)) : wpY_after post (nI S, nI K0, nI K1, nI R, nI n, nI g, nI cu, nI an, nA rl, nA ds) (nI mv) (nI c) := by
  have hp := hs.1
  have hn := hs.2.1
  have hc := (cd_lt hp hV).1
  refine pk_lt mv 16 (fun z => br_f (nI_pos (by omega)) ?_) (fun z => ⟨ba_n4, ba_n4, ?_⟩)
  · refine pk_lt mv n (fun y => ?_) (fun y => h0 ?_)
    · have hok := hs.2.2.1 mv y
      have i12 : vp_in (nI mv) 12 := vp_in_nI (by omega) (by omega)
      obtain ⟨d1, d2, d3, d4, d5⟩ := yw_dec hp.2.1 hok (hrl mv y)
      have e0 : nA rl (nI mv).toNatClampNeg = nI (rl mv) := ba_at (by omega)
      have e3 : nA rl (nI mv).toNatClampNeg / 256 = nI (rm mv) := by rw [e0, ba_d256 (by omega), d1]
      have e4 : (nA rl (nI mv).toNatClampNeg / 64) - (nA rl (nI mv).toNatClampNeg / 64) / 4 * 4 = nI (rf mv) := by rw [e0, ba_r644 (by omega), d2]
      have e5 : (nA rl (nI mv).toNatClampNeg / 16) - (nA rl (nI mv).toNatClampNeg / 16) / 4 * 4 = nI (rt mv) := by rw [e0, ba_r164 (by omega), d3]
      have e6 : nA rl (nI mv).toNatClampNeg - nA rl (nI mv).toNatClampNeg / 16 * 16 = nI (ro mv) := by rw [e0, ba_r16 (by omega), d4]
      refine ⟨i12, ba_n256, nm_r e3 ⟨i12, ba_n64, ba_n4, nm_r e4 ⟨i12, ba_n16, ba_n4, nm_r e5 ⟨i12, ba_n16, nm_r e6 ?_⟩⟩⟩⟩
      have H1 : ru_en (rm mv) (rf mv) (ro mv) c → post (nI (ru_fr K0 K1 (rm mv) (rt mv) (ro mv) c)) := fun x => h1 _ 1 (Or.inl ⟨y, x, rfl, rfl⟩)
      have H0 : ¬ ru_en (rm mv) (rf mv) (ro mv) c → post (-1) := by
        intro x
        refine h0 ?_
        rintro d k (⟨-, w, -⟩ | ⟨w, -⟩)
        · exact x w
        · omega
      have hS := hp.2.1
      have st3 : cd_st c (rm mv) < 3 := by have := cd_Vt hV hok.1; omega
      have hf := hok.2.1
      refine yw_state (by omega) hok.1 ?_
      refine pk_eq (cd_st c (rm mv)) (rf mv) (fun e => ?_) (fun e => H0 (fun x => e x.1))
      rcases cd_q hok.1 with q | q
      · refine br_t (by rw [q]; rfl) ?_
        refine yw_after118 hp hV hok e ?_ H1 H0
        rw [q] at e ⊢
        exact ba_yss0 e
      · refine br_f (by rw [q]; exact ba_10) ?_
        refine yw_after118 hp hV hok e ?_ H1 H0
        rw [q] at e ⊢
        exact ba_yss1 e
    · rintro d k (⟨w, -⟩ | ⟨w, -⟩) <;> omega
  · have e : nI mv - 16 = nI (mv - 16) := pk_sub (b := 16) z
    have e1 : (nI mv - 16) / 4 = nI ((mv - 16) / 4) := by rw [e]; exact pk_div (d := 4) (by omega) (by decide) (by decide)
    have e2 : (nI mv - 16) - (nI mv - 16) / 4 * 4 = nI ((mv - 16) % 4) := by rw [e]; exact ba_r4 (by omega)
    rw [e2, e1]
    refine yw_loseAt (by omega) (bf_q hmv) (by omega) (fun y => h1 _ 0 (Or.inr ⟨z, hmv, y, rfl, rfl⟩)) (fun y => h0 ?_)
    rintro d k (⟨w, -⟩ | ⟨-, -, w, -⟩)
    · omega
    · exact y w
theorem yw_knownN {c : Nat} (hc : c < 1536) (h : post (nI (ds c))) : wpY_known post (nI S, nI K0, nI K1, nI R, nI n, nI g, nI cu, nI an, nA rl, nA ds) (nI c) := by
  refine br_f (nI_pos (by omega)) (br_f (nI_ge (b := 1536) (by omega) (by omega)) ⟨vp_in_nI hc (by omega), ?_⟩)
  have e : nA ds (nI c).toNatClampNeg = nI (ds c) := ba_at (by omega)
  rw [e]; exact h
theorem yw_knownM (h : post (nI 1000000)) : wpY_known post (nI S, nI K0, nI K1, nI R, nI n, nI g, nI cu, nI an, nA rl, nA ds) (-1) := br_t ba_neg1 h
theorem yw_memM (hR : R < 1000000) (h : post 0) : wpY_member post (nI S, nI K0, nI K1, nI R, nI n, nI g, nI cu, nI an, nA rl, nA ds) (-1) := by
  unfold wpY_member
  dsimp only
  exact yw_knownM (br_t (nI_lt hR (by omega)) h)
theorem yw_mem {c : Nat} (hs : rc_S R S K0 K1 n g rm rf rt ro) (hok : bf_OK S K0 K1 n g rm rf rt ro ds) (hc : c < 1536) (h1 : cd_V S K0 K1 c → rc_R S K0 K1 n g rm rf rt ro R c → post 1) (h0 : ¬ (cd_V S K0 K1 c ∧ rc_R S K0 K1 n g rm rf rt ro R c) → post 0) : wpY_member post (nI S, nI K0, nI K1, nI R, nI n, nI g, nI cu, nI an, nA rl, nA ds) (nI c) := by
  have hR : R ≤ 32 := hs.1.2.2.2.2.2.2.2
  have hd := (hok.1 c hc).1
  unfold wpY_member
  dsimp only
  refine yw_knownN hc ?_
  by_cases hV : cd_V S K0 K1 c
  · have e := bf_iff (k := R) hs hok hV (by omega)
    exact pk_lt R (ds c) (fun z => h0 (fun y => by have := e.mpr y.2; omega)) (fun z => h1 hV (e.mp z))
  · have e := (hok.1 c hc).2.1 hV
    exact pk_lt R (ds c) (fun z => h0 (fun y => hV y.1)) (fun z => by omega)
theorem yw_memV {c : Nat} (hs : rc_S R S K0 K1 n g rm rf rt ro) (hok : bf_OK S K0 K1 n g rm rf rt ro ds) (hV : cd_V S K0 K1 c) (h1 : rc_R S K0 K1 n g rm rf rt ro R c → post 1) (h0 : ¬ rc_R S K0 K1 n g rm rf rt ro R c → post 0) : wpY_member post (nI S, nI K0, nI K1, nI R, nI n, nI g, nI cu, nI an, nA rl, nA ds) (nI c) :=
  yw_mem hs hok (cd_lt hs.1 hV).1 (fun _ z => h1 z) (fun z => h0 (fun y => z ⟨hV, y⟩))
theorem yw_uns133 {c r : Nat} (hs : rc_S R S K0 K1 n g rm rf rt ro) (hok : bf_OK S K0 K1 n g rm rf rt ro ds) (hV : cd_V S K0 K1 c) (hr : r < n)
    (h1 : (∀ i, i ≤ wk_len (cd_wd c (ru_q (ro r))) → ¬ rc_R S K0 K1 n g rm rf rt ro R (cd_sw (cd_ss c (rm r) (rf r)) (ru_q (ro r)) (wk_wo (wk_pp (ru_l (ro r)) (cd_wd c (ru_q (ro r)))) i))) → post 1)
    (h0 : (∃ i, i ≤ wk_len (cd_wd c (ru_q (ro r))) ∧ rc_R S K0 K1 n g rm rf rt ro R (cd_sw (cd_ss c (rm r) (rf r)) (ru_q (ro r)) (wk_wo (wk_pp (ru_l (ro r)) (cd_wd c (ru_q (ro r)))) i))) → post 0) :
    ∀ d i, i + d = wk_len (cd_wd c (ru_q (ro r))) + 1 → (∀ k, k < i → ¬ rc_R S K0 K1 n g rm rf rt ro R (cd_sw (cd_ss c (rm r) (rf r)) (ru_q (ro r)) (wk_wo (wk_pp (ru_l (ro r)) (cd_wd c (ru_q (ro r)))) k))) →
      wY_unsupported_133 post (nI (ru_q (ro r))) (nI (wk_len (cd_wd c (ru_q (ro r))))) (nI (wk_pp (ru_l (ro r)) (cd_wd c (ru_q (ro r))))) (nI (cd_ss c (rm r) (rf r))) (nI S) (nI K0) (nI K1) (nI R) (nI n) (nI g) (nI cu) (nI an) (nA rl) (nA ds) (d + 1) (nI i) := by
  have hq := ru_q2 (ro r)
  have hl := ru_l2 (ro r)
  have hw := cd_w16 (c := c) hq
  have l3 := wk_len3 _ hw
  have hru := hs.2.2.1 r hr
  have hS := hs.1.2.1
  have hss := cd_Vss hV hru.1 hru.2.1 (by have := hru.2.1; omega)
  obtain ⟨q1, q2⟩ := wk_q4 _ hw _ hl (cd_Vw hV hq).1
  intro d
  induction d with
  | zero =>
    intro i hi hk
    exact br_t (nI_lt (by omega) (by omega)) (h1 (fun k hk' => hk k (by omega)))
  | succ d ih =>
    intro i hi hk
    obtain ⟨f1, f2, f3⟩ := vd_fdl (i := i) hs.1 hq hl hV (by omega)
    refine br_f (nI_nlt (by omega) (by omega)) (br_f (nI_ge (b := 4) (by omega) (by omega)) ?_)
    refine yw_without q1 (by omega) (yw_withWord (by have := (cd_lt hs.1 hss).1; omega) hq ?_)
    refine yw_memV hs hok (cd_Vsw hss hq f1 f2 f3) (fun z => br_f ba_10 (h0 ⟨i, by omega, z⟩)) (fun z => br_t rfl (nm_r (nI_1 i) (ih (i + 1) (by omega) (fun k hk' => ?_))))
    rcases Nat.lt_or_ge k i with y | y
    · exact hk k y
    · have e : k = i := by omega
      rw [e]; exact z
theorem yw_uns {c r : Nat} (hs : rc_S R S K0 K1 n g rm rf rt ro) (hrl : yw_rl n rm rf rt ro rl) (hok : bf_OK S K0 K1 n g rm rf rt ro ds) (hc : c < 1536) (hr : r < n)
    (h1 : cd_V S K0 K1 c → rc_R S K0 K1 n g rm rf rt ro R c → vd_u R S K0 K1 n g rm rf rt ro r c → post 1) (h0 : ¬ (cd_V S K0 K1 c ∧ rc_R S K0 K1 n g rm rf rt ro R c ∧ vd_u R S K0 K1 n g rm rf rt ro r c) → post 0) : wpY_unsupported post (nI S, nI K0, nI K1, nI R, nI n, nI g, nI cu, nI an, nA rl, nA ds) (nI (rl r)) (nI c) := by
  have hru := hs.2.2.1 r hr
  have hp := hs.1
  have hS := hp.2.1
  obtain ⟨d1, d2, d3, d4, d5⟩ := yw_dec hp.2.1 hru (hrl r hr)
  have e3 : nI (rl r) / 256 = nI (rm r) := by rw [ba_d256 (by omega), d1]
  have e4 : nI (rl r) - nI (rl r) / 16 * 16 = nI (ro r) := by rw [ba_r16 (by omega), d4]
  have et : (nI (rl r) / 16) - (nI (rl r) / 16) / 4 * 4 = nI (rt r) := by rw [ba_r164 (by omega), d3]
  have ef : (nI (rl r) / 64) - (nI (rl r) / 64) / 4 * 4 = nI (rf r) := by rw [ba_r644 (by omega), d2]
  obtain ⟨hm, hf, ht, ho⟩ := hru
  have hq := ru_q2 (ro r)
  have hl := ru_l2 (ro r)
  have hw := cd_w16 (c := c) hq
  have l3 := wk_len3 _ hw
  refine ⟨ba_n256, nm_r e3 ⟨ba_n16, nm_r e4 ⟨ba_n2, ba_n2, fun x5 e5 => ?_⟩⟩⟩
  refine pk_lt (ro r) 5 (fun z => h0 (fun y => by have := y.2.2.1; omega)) (fun z => ?_)
  have e5' : x5 = nI (ru_q (ro r)) := e5.trans (ba_yq _ (by omega) (by omega))
  subst e5'
  refine yw_mem hs hok hc (fun hV hR => br_f ba_10 ?_) (fun y => br_t rfl (h0 (fun x => y ⟨x.1, x.2.1⟩)))
  have st3 : cd_st c (rm r) < 3 := by have := cd_Vt hV hm; omega
  refine yw_state (by omega) hm ⟨ba_n16, ba_n4, ?_⟩
  refine pk_eq (cd_st c (rm r)) (rt r) (fun e => ?_) (fun e => h0 (fun x => e x.2.2.2.1)) rfl et
  refine yw_full hp (by omega) hq (fun fu => br_f ba_10 ?_) (fun fu => br_t rfl (h0 (fun x => fu x.2.2.2.2.1)))
  refine yw_word (by omega) hq (yw_length (by omega) ⟨ba_n2, ?_⟩)
  have ey : (nI (ro r) - 1) - (nI (ro r) - 1) / 2 * 2 = nI (ru_l (ro r)) := ba_yl _ (by omega) (by omega)
  refine nm_r (e' := nI (wk_pp (ru_l (ro r)) (cd_wd c (ru_q (ro r))))) (by rw [ey]; exact ba_yp _ hw _ hl) ⟨ba_n64, ba_n4, ba_n16, ba_n4, ?_⟩
  rw [ef, et]
  have fin : ∃ n133 : Nat, wY_unsupported_133 post (nI (ru_q (ro r))) (nI (wk_len (cd_wd c (ru_q (ro r))))) (nI (wk_pp (ru_l (ro r)) (cd_wd c (ru_q (ro r))))) (nI (cd_ss c (rm r) (rf r))) (nI S) (nI K0) (nI K1) (nI R) (nI n) (nI g) (nI cu) (nI an) (nA rl) (nA ds) n133 0 :=
    ⟨wk_len (cd_wd c (ru_q (ro r))) + 1 + 1, yw_uns133 hs hok hV hr (fun y => h1 hV hR ⟨z, e, fu, y⟩) (fun ⟨i, y1, y2⟩ => h0 (fun x => x.2.2.2.2.2 i y1 y2)) _ 0 (by omega) (fun k hk => by omega)⟩
  rcases cd_q hm with q | q
  · refine br_t (by rw [q]; rfl) (nm_r (e' := nI (cd_ss c (rm r) (rf r))) ?_ fin)
    rw [q] at e ⊢
    exact ba_yss0 e
  · refine br_f (by rw [q]; exact ba_10) (nm_r (e' := nI (cd_ss c (rm r) (rf r))) ?_ fin)
    rw [q] at e ⊢
    exact ba_yss1 e
theorem yw_v80 {r : Nat} {J : Int32 → Prop} (hs : rc_S R S K0 K1 n g rm rf rt ro) (hrl : yw_rl n rm rf rt ro rl) (hok : bf_OK S K0 K1 n g rm rf rt ro ds) (hr : r < n) (h3 : vd_U R S K0 K1 n g rm rf rt ro → post 3)
    (hJ : (∀ k, k < 1536 → ¬ (cd_V S K0 K1 k ∧ rc_R S K0 K1 n g rm rf rt ro R k ∧ vd_u R S K0 K1 n g rm rf rt ro r k)) → J (nI (r + 1))) :
    ∀ d c, c + d = 1536 → (∀ k, k < c → ¬ (cd_V S K0 K1 k ∧ rc_R S K0 K1 n g rm rf rt ro R k ∧ vd_u R S K0 K1 n g rm rf rt ro r k)) → wY_verdict_80 post J (nI r) (nI S) (nI K0) (nI K1) (nI R) (nI n) (nI g) (nI cu) (nI an) (nA rl) (nA ds) (d + 1) (nI c) := by
  have hn := hs.2.1
  intro d
  induction d with
  | zero =>
    intro c hc hk
    exact br_t (nI_le (a := 1536) (by omega) (by omega)) (nm_r (nI_1 r) (hJ (fun k hk' => hk k (by omega))))
  | succ d ih =>
    intro c hc hk
    refine br_f (nI_ge (b := 1536) (by omega) (by omega)) ⟨vp_in_nI (by omega) (by omega), ?_⟩
    have e : nA rl (nI r).toNatClampNeg = nI (rl r) := ba_at (by omega)
    rw [e]
    refine yw_uns hs hrl hok (by omega) hr (fun a b c' => br_f ba_10 (h3 ⟨r, c, hr, a, b, c'⟩)) (fun z => br_t rfl (nm_r (nI_1 c) (ih (c + 1) (by omega) (fun k hk' => ?_))))
    rcases Nat.lt_or_ge k c with y | y
    · exact hk k y
    · have e : k = c := by omega
      rw [e]; exact z
theorem yw_v64 (hs : rc_S R S K0 K1 n g rm rf rt ro) (hrl : yw_rl n rm rf rt ro rl) (hok : bf_OK S K0 K1 n g rm rf rt ro ds) (h3 : vd_U R S K0 K1 n g rm rf rt ro → post 3) (h2 : ¬ vd_U R S K0 K1 n g rm rf rt ro → post 2) :
    ∀ d r, r + d = n → (∀ s, s < r → ∀ k, k < 1536 → ¬ (cd_V S K0 K1 k ∧ rc_R S K0 K1 n g rm rf rt ro R k ∧ vd_u R S K0 K1 n g rm rf rt ro s k)) → wY_verdict_64 post (nI S) (nI K0) (nI K1) (nI R) (nI n) (nI g) (nI cu) (nI an) (nA rl) (nA ds) (d + 1) (nI r) := by
  have hn := hs.2.1
  intro d
  induction d with
  | zero =>
    intro r hr hk
    refine br_t (nI_le (by omega) (by omega)) (h2 ?_)
    rintro ⟨s, c, y1, y2, y3⟩
    exact hk s (by omega) c (cd_lt hs.1 y2).1 ⟨y2, y3⟩
  | succ d ih =>
    intro r hr hk
    refine br_f (nI_ge (by omega) (by omega)) (br_f (nI_ge (b := 12) (by omega) (by omega)) ⟨1537, ?_⟩)
    refine yw_v80 hs hrl hok (by omega) h3 (fun z => ih (r + 1) (by omega) (fun s hs' => ?_)) 1536 0 (by omega) (fun k hk' => by omega)
    rcases Nat.lt_or_ge s r with y | y
    · exact hk s y
    · have e : s = r := by omega
      rw [e]; exact z
theorem yw_v23 (hs : rc_S R S K0 K1 n g rm rf rt ro) (hrl : yw_rl n rm rf rt ro rl) (hok : bf_OK S K0 K1 n g rm rf rt ro ds) (h9 : ¬ rc_R S K0 K1 n g rm rf rt ro R 9) (h : post (nI (vd_f R S K0 K1 n g rm rf rt ro))) :
    ∀ d c, c + d = 1536 → (∀ k, k < c → ¬ (R < ds k ∧ ds k < 1000000)) → wY_verdict_23 post (nI S) (nI K0) (nI K1) (nI R) (nI n) (nI g) (nI cu) (nI an) (nA rl) (nA ds) (d + 1) (nI c) := by
  have hR : R ≤ 32 := hs.1.2.2.2.2.2.2.2
  intro d
  induction d with
  | zero =>
    intro c hc hk
    have hB : ¬ vd_B R S K0 K1 n g rm rf rt ro := by
      rintro ⟨x, y1, y2, y3⟩
      have hx := (cd_lt hs.1 y1).1
      have a := (bf_iff (k := R + 1) hs hok y1 (by omega)).mpr y3
      have b : ¬ ds x ≤ R := fun w => y2 ((bf_iff (k := R) hs hok y1 (by omega)).mp w)
      exact hk x (by omega) ⟨by omega, by omega⟩
    refine br_t (nI_le (a := 1536) (by omega) (by omega)) ⟨n + 1, ?_⟩
    refine yw_v64 hs hrl hok (fun z => ?_) (fun z => ?_) n 0 (by omega) (fun s hs' => by omega)
    · rw [vd_3 h9 hB z] at h; exact h
    · rw [vd_2 h9 hB z] at h; exact h
  | succ d ih =>
    intro c hc hk
    have i15 : vp_in (nI c) 1536 := vp_in_nI (by omega) (by omega)
    have hd := (hok.1 c (by omega)).1
    have e : nA ds (nI c).toNatClampNeg = nI (ds c) := ba_at (by omega)
    have nx : ¬ (R < ds c ∧ ds c < 1000000) → wY_verdict_23 post (nI S) (nI K0) (nI K1) (nI R) (nI n) (nI g) (nI cu) (nI an) (nA rl) (nA ds) (d + 1) (nI (c + 1)) := by
      intro z
      refine ih (c + 1) (by omega) (fun k hk' => ?_)
      rcases Nat.lt_or_ge k c with y | y
      · exact hk k y
      · have e : k = c := by omega
        rw [e]; exact z
    refine br_f (nI_ge (b := 1536) (by omega) (by omega)) ⟨i15, ?_⟩
    refine pk_le (ds c) R (fun z => nm_r (nI_1 c) (nx (by omega))) (fun z => ⟨i15, ?_⟩) e rfl
    refine pk_le 1000000 (ds c) (fun y => nm_r (nI_1 c) (nx (by omega))) (fun y => ?_) rfl e
    have hV : cd_V S K0 K1 c := by
      by_cases w : cd_V S K0 K1 c
      · exact w
      · have := (hok.1 c (by omega)).2.1 w
        omega
    have hr := (hok.1 c (by omega)).2.2.1 hV y
    have hn : ¬ rc_R S K0 K1 n g rm rf rt ro R c := fun w => by have := (bf_iff (k := R) hs hok hV (by omega)).mpr w; omega
    have hB : vd_B R S K0 K1 n g rm rf rt ro := by
      by_cases w : vd_B R S K0 K1 n g rm rf rt ro
      · exact w
      · exact absurd (vd_cl hs w _ _ hV hr) hn
    rw [vd_4 h9 hB] at h
    exact h
theorem yw_V9 (hp : cd_Pm S K0 K1 R) : cd_V S K0 K1 9 := by
  obtain ⟨h1, -, h2, -, h3, -⟩ := hp
  have a : 2 ^ 1 ≤ 2 ^ (K0 + 1) := Nat.pow_le_pow_right (by decide) (by omega)
  have b : 2 ^ 1 ≤ 2 ^ (K1 + 1) := Nat.pow_le_pow_right (by decide) (by omega)
  exact ⟨by omega, by omega, by omega, by omega, by omega, by omega⟩
theorem yw_verdict (hs : rc_S R S K0 K1 n g rm rf rt ro) (hrl : yw_rl n rm rf rt ro rl) (hok : bf_OK S K0 K1 n g rm rf rt ro ds) (h : post (nI (vd_f R S K0 K1 n g rm rf rt ro))) : wpY_verdict post (nI S, nI K0, nI K1, nI R, nI n, nI g, nI cu, nI 1, nA rl, nA ds) := by
  refine br_f ba_10 ?_
  refine yw_memV (c := 9) hs hok (yw_V9 hs.1) (fun z => br_f ba_10 ?_) (fun z => br_t rfl ⟨1537, ?_⟩)
  · rw [vd_1 z] at h; exact h
  · exact yw_v23 hs hrl hok z h 1536 0 (by omega) (fun k hk => by omega)
theorem yw_min13 {c : Nat} (hs : rc_S R S K0 K1 n g rm rf rt ro) (hrl : yw_rl n rm rf rt ro rl) (hok : bf_OK S K0 K1 n g rm rf rt ro ds) (hV : cd_V S K0 K1 c) (hr : rc_R S K0 K1 n g rm rf rt ro R c) (h1 : mn_m R S K0 K1 n g rm rf rt ro c → post 1) (h0 : ¬ mn_m R S K0 K1 n g rm rf rt ro c → post 0) :
    ∀ d mv, mv + d = 24 → 16 ≤ mv → (∀ k, 16 ≤ k → k < mv → ∀ x y, bf_E S K0 K1 n g rm rf rt ro c k x y → ¬ rc_R S K0 K1 n g rm rf rt ro R x) → wY_minimal_13 post (nI c) (nI S) (nI K0) (nI K1) (nI R) (nI n) (nI g) (nI cu) (nI an) (nA rl) (nA ds) (d + 1) (nI mv) := by
  have hR : R ≤ 32 := hs.1.2.2.2.2.2.2.2
  have hn := hs.2.1
  intro d
  induction d with
  | zero =>
    intro mv hm h16 hk
    refine br_t (nI_le (a := 24) (by omega) (by omega)) (h1 ⟨hV, hr, fun q i hq hi => ?_⟩)
    have i3 := wk_len3 _ (cd_w16 (c := c) hq)
    have e1 : (16 + 4 * q + i - 16) / 4 = q := by omega
    have e2 : (16 + 4 * q + i - 16) % 4 = i := by omega
    exact hk (16 + 4 * q + i) (by omega) (by omega) (cd_ls c q i) 0 (Or.inr ⟨by omega, by omega, by rw [e1, e2]; exact hi, by rw [e1, e2], rfl⟩)
  | succ d ih =>
    intro mv hm h16 hk
    refine br_f (nI_ge (b := 24) (by omega) (by omega)) ?_
    have nx : (∀ x y, bf_E S K0 K1 n g rm rf rt ro c mv x y → ¬ rc_R S K0 K1 n g rm rf rt ro R x) → wY_minimal_13 post (nI c) (nI S) (nI K0) (nI K1) (nI R) (nI n) (nI g) (nI cu) (nI an) (nA rl) (nA ds) (d + 1) (nI (mv + 1)) := by
      intro z
      refine ih (mv + 1) (by omega) (by omega) (fun k k16 hk' => ?_)
      rcases Nat.lt_or_ge k mv with y | y
      · exact hk k k16 y
      · have e : k = mv := by omega
        rw [e]; exact z
    refine yw_after hs hrl hV (by omega) (fun x y hE => ?_) (fun z => ?_)
    · refine yw_memV hs hok (bf_EV hs hV hE) (fun z => br_f ba_10 (h0 ?_)) (fun z => br_t rfl (nm_r (nI_1 mv) (nx ?_)))
      · intro w
        rcases hE with ⟨w1, -⟩ | ⟨-, w2, w3, rfl, -⟩
        · omega
        · exact w.2.2 _ _ (bf_q w2) w3 z
      · intro x' y' hE' w
        have ex : x' = x := by
          rcases hE with ⟨w1, -⟩ | ⟨-, w2, w3, rfl, -⟩
          · omega
          · rcases hE' with ⟨w1, -⟩ | ⟨-, -, -, e, -⟩
            · omega
            · exact e
        rw [ex] at w
        exact z w
    · exact yw_memM (by omega) (br_t rfl (nm_r (nI_1 mv) (nx (fun x y hE => absurd hE (z x y)))))
theorem yw_minimal {c : Nat} (hs : rc_S R S K0 K1 n g rm rf rt ro) (hrl : yw_rl n rm rf rt ro rl) (hok : bf_OK S K0 K1 n g rm rf rt ro ds) (hc : c < 1536) (h1 : mn_m R S K0 K1 n g rm rf rt ro c → post 1) (h0 : ¬ mn_m R S K0 K1 n g rm rf rt ro c → post 0) : wpY_minimal post (nI S, nI K0, nI K1, nI R, nI n, nI g, nI cu, nI an, nA rl, nA ds) (nI c) := by
  unfold wpY_minimal
  dsimp only
  refine yw_mem hs hok hc (fun hV hr => br_f ba_10 ⟨9, ?_⟩) (fun z => br_t rfl (h0 (fun y => z ⟨y.1, y.2.1⟩)))
  exact yw_min13 hs hrl hok hV hr h1 h0 8 16 (by omega) (by omega) (fun k k1 k2 => by omega)
end
end
section
/-! the reference's analysis: sweeps -/
def ya_I (S K0 K1 n g : Nat) (rm rf rt ro : Nat → Nat) (d0 : Nat → Nat) (ch c mv : Nat) (ds : Nat → Nat) : Prop :=
  ch ≤ 1 ∧ (∀ x, x < 1536 → ds x ≤ d0 x) ∧ bf_S S K0 K1 n g rm rf rt ro ds ∧ (ch = 0 → ∀ x, x < 1536 → ds x = d0 x) ∧
  (∀ x, x < 1536 → cd_V S K0 K1 x → ∀ m d k, bf_E S K0 K1 n g rm rf rt ro x m d k → (x < c ∨ (x = c ∧ m < mv)) → ds x ≤ d0 d + k)
section
variable {S K0 K1 R n g cu an : Nat} {rl ds rm rf rt ro d0 : Nat → Nat}
theorem ya_Ek {c mv d k : Nat} (hn : n ≤ 12) (h : bf_E S K0 K1 n g rm rf rt ro c mv d k) : (mv < 16 ∧ k = 1) ∨ (16 ≤ mv ∧ k = 0) := by
  rcases h with ⟨h1, -, -, h4⟩ | ⟨h1, -, -, -, h4⟩
  · exact Or.inl ⟨by omega, h4⟩
  · exact Or.inr ⟨h1, h4⟩
theorem ya_Ed {c mv d k d' k' : Nat} (hn : n ≤ 12) (h : bf_E S K0 K1 n g rm rf rt ro c mv d k) (h' : bf_E S K0 K1 n g rm rf rt ro c mv d' k') : d' = d ∧ k' = k := by
  rcases h with ⟨h1, h2, h3, h4⟩ | ⟨h1, h2, h3, h4, h5⟩ <;> rcases h' with ⟨g1, g2, g3, g4⟩ | ⟨g1, g2, g3, g4, g5⟩
  · exact ⟨g3.trans h3.symm, g4.trans h4.symm⟩
  · omega
  · omega
  · exact ⟨g4.trans h4.symm, g5.trans h5.symm⟩
theorem ya_Em {c mv d k : Nat} (hn : n ≤ 12) (h : bf_E S K0 K1 n g rm rf rt ro c mv d k) : mv < 24 := by
  rcases h with ⟨h1, -⟩ | ⟨-, h2, -⟩ <;> omega
theorem ya_set {c mv d k : Nat} (hs : rc_S R S K0 K1 n g rm rf rt ro) (h : bf_S S K0 K1 n g rm rf rt ro ds) (hV : cd_V S K0 K1 c) (hE : bf_E S K0 K1 n g rm rf rt ro c mv d k) (hlt : ds d + k < ds c) : bf_S S K0 K1 n g rm rf rt ro (ba_up ds c (ds d + k)) := by
  have hd := bf_EV hs hV hE
  have hc := (cd_lt hs.1 hV).1
  intro x hx
  by_cases e : x = c
  · subst e
    rw [ba_us]
    have b := (h x hx).1
    refine ⟨by omega, fun z => absurd hV z, fun _ _ => bf_ER hV hE ((h d (cd_lt hs.1 hd).1).2.2.1 hd (by omega)), fun _ z => ?_⟩
    have := (h x hx).2.2.2 hV z
    omega
  · rw [ba_un e]
    exact h x hx
theorem ya_keep {ch c mv : Nat} (h : ya_I S K0 K1 n g rm rf rt ro d0 ch c mv ds) (hk : ∀ d k, bf_E S K0 K1 n g rm rf rt ro c mv d k → ds c ≤ ds d + k) (hd : ∀ d k, bf_E S K0 K1 n g rm rf rt ro c mv d k → d < 1536) : ya_I S K0 K1 n g rm rf rt ro d0 ch c (mv + 1) ds := by
  obtain ⟨h0, h1, h2, h3, h4⟩ := h
  refine ⟨h0, h1, h2, h3, fun x hx hV m d k hE ho => ?_⟩
  by_cases e : x = c ∧ m = mv
  · obtain ⟨rfl, rfl⟩ := e
    have := hk d k hE
    have := h1 d (hd d k hE)
    omega
  · exact h4 x hx hV m d k hE (by omega)
theorem ya_upd {ch c mv d k : Nat} (hs : rc_S R S K0 K1 n g rm rf rt ro) (h : ya_I S K0 K1 n g rm rf rt ro d0 ch c mv ds) (hV : cd_V S K0 K1 c) (hE : bf_E S K0 K1 n g rm rf rt ro c mv d k) (hlt : ds d + k < ds c) : ya_I S K0 K1 n g rm rf rt ro d0 1 c (mv + 1) (ba_up ds c (ds d + k)) := by
  obtain ⟨h0, h1, h2, h3, h4⟩ := h
  have hd := (cd_lt hs.1 (bf_EV hs hV hE)).1
  refine ⟨by omega, fun x hx => ?_, ya_set hs h2 hV hE hlt, fun z => absurd z (by decide), fun x hx hV' m d' k' hE' ho => ?_⟩
  · by_cases e : x = c
    · subst e
      rw [ba_us]
      have := h1 x hx
      omega
    · rw [ba_un e]; exact h1 x hx
  · by_cases e : x = c
    · subst e
      rw [ba_us]
      by_cases e2 : m = mv
      · subst e2
        obtain ⟨rfl, rfl⟩ := ya_Ed hs.2.1 hE hE'
        have := h1 d' hd
        omega
      · have := h4 x hx hV' m d' k' hE' (by omega)
        omega
    · rw [ba_un e]
      exact h4 x hx hV' m d' k' hE' (by omega)
theorem ya_next {ch c : Nat} (hn : n ≤ 12) (h : ya_I S K0 K1 n g rm rf rt ro d0 ch c 24 ds) : ya_I S K0 K1 n g rm rf rt ro d0 ch (c + 1) 0 ds := by
  obtain ⟨h0, h1, h2, h3, h4⟩ := h
  exact ⟨h0, h1, h2, h3, fun x hx hV m d k hE ho => h4 x hx hV m d k hE (by have := ya_Em hn hE; omega)⟩
theorem ya_skip {ch c : Nat} (hV : ¬ cd_V S K0 K1 c) (h : ya_I S K0 K1 n g rm rf rt ro d0 ch c 0 ds) : ya_I S K0 K1 n g rm rf rt ro d0 ch (c + 1) 0 ds := by
  obtain ⟨h0, h1, h2, h3, h4⟩ := h
  refine ⟨h0, h1, h2, h3, fun x hx hV' m d k hE ho => h4 x hx hV' m d k hE ?_⟩
  rcases Nat.lt_or_ge x c with y | y
  · exact Or.inl y
  · have e : x = c := by omega
    rw [e] at hV'
    exact absurd hV' hV
theorem ya_start (h : bf_S S K0 K1 n g rm rf rt ro ds) : ya_I S K0 K1 n g rm rf rt ro ds 0 0 0 ds :=
  ⟨by omega, fun x _ => Nat.le_refl _, h, fun _ x _ => rfl, fun x hx hV m d k hE ho => by omega⟩
theorem ya_X {ch : Nat} (h : ya_I S K0 K1 n g rm rf rt ro d0 ch 1536 0 ds) : bf_X S K0 K1 n g rm rf rt ro d0 ds :=
  ⟨h.2.1, fun c hc hV mv d k hE => h.2.2.2.2 c hc hV mv d k hE (Or.inl hc)⟩
variable {post : Int32 → SY → Prop} {J47 J62 : Int32 → Int32 → (Nat → Int32) → (Nat → Int32) → Prop}
theorem ya_117 {J83 : Int32 → Int32 → (Nat → Int32) → (Nat → Int32) → Prop} {x2 : Int32} {ch c mv a k : Nat} (hc : c < 1536) (hd : ds c ≤ 1000000) (ha : a ≤ 1000000) (hk : k ≤ 1)
    (h1 : ds c ≤ a + k → J83 (nI ch) (nI (mv + 1)) (nA rl) (nA ds)) (h2 : a + k < ds c → J83 (nI 1) (nI (mv + 1)) (nA rl) (nA (ba_up ds c (a + k)))) :
    wY_analyse_117 post J47 J62 J83 (nI ch) x2 (nI c) (nI mv) (nI k) (nI a) (nI S) (nI K0) (nI K1) (nI R) (nI n) (nI g) (nI cu) (nI an) (nA rl) (nA ds) := by
  have i15 : vp_in (nI c) 1536 := vp_in_nI hc (by omega)
  have e : nA ds (nI c).toNatClampNeg = nI (ds c) := ba_at (by omega)
  unfold wY_analyse_117
  refine nm_r (nI_add a k) ⟨i15, ?_⟩
  refine pk_le (ds c) (a + k) (fun z => nm_r (nI_1 mv) (h1 z)) (fun z => ⟨i15, nm_r (e' := nA (ba_up ds c (a + k))) ?_ (nm_r (nI_1 mv) (h2 z))⟩) e rfl
  rw [nI_clamp (by omega)]
  exact ba_upd ds c (a + k)
theorem ya_83 {p c : Nat} (hs : rc_S R S K0 K1 n g rm rf rt ro) (hrl : yw_rl n rm rf rt ro rl) (hV : cd_V S K0 K1 c)
    (hJ : ∀ ch ds, ya_I S K0 K1 n g rm rf rt ro d0 ch c 24 ds → J62 (nI ch) (nI (c + 1)) (nA rl) (nA ds)) :
    ∀ d mv ch ds, mv + d = 24 → ya_I S K0 K1 n g rm rf rt ro d0 ch c mv ds → wY_analyse_83 post J47 J62 (nI p) (nI c) (nI S) (nI K0) (nI K1) (nI R) (nI n) (nI g) (nI cu) (nI an) (d + 1) (nI ch) (nI mv) (nA rl) (nA ds) := by
  have hc := (cd_lt hs.1 hV).1
  have hn := hs.2.1
  intro d
  induction d with
  | zero =>
    intro mv ch ds hm hI
    have e : mv = 24 := by omega
    subst e
    exact br_t (nI_le (a := 24) (by omega) (by omega)) (nm_r (nI_1 c) (hJ ch ds hI))
  | succ d ih =>
    intro mv ch ds hm hI
    have hdc := (hI.2.2.1 c hc).1
    refine br_f (nI_ge (b := 24) (by omega) (by omega)) ?_
    refine yw_after hs hrl hV (by omega) (fun x k hE => ?_) (fun z => ?_)
    · have hx := (cd_lt hs.1 (bf_EV hs hV hE)).1
      have hdx := (hI.2.2.1 x hx).1
      refine yw_knownN hx ?_
      have keep : ds c ≤ ds x + k → ya_I S K0 K1 n g rm rf rt ro d0 ch c (mv + 1) ds := fun z => ya_keep hI (fun x' k' hE' => by obtain ⟨rfl, rfl⟩ := ya_Ed hn hE hE'; exact z) (fun x' k' hE' => by obtain ⟨rfl, rfl⟩ := ya_Ed hn hE hE'; exact hx)
      rcases ya_Ek hn hE with ⟨w, rfl⟩ | ⟨w, rfl⟩
      · refine br_f (nI_ge (b := 16) (by omega) (by omega)) ?_
        exact ya_117 (k := 1) hc hdc hdx (by omega) (fun z => ih (mv + 1) ch ds (by omega) (keep z)) (fun z => ih (mv + 1) 1 _ (by omega) (ya_upd hs hI hV hE z))
      · refine br_t (nI_le (a := 16) (by omega) (by omega)) ?_
        exact ya_117 (k := 0) hc hdc hdx (by omega) (fun z => ih (mv + 1) ch ds (by omega) (keep z)) (fun z => ih (mv + 1) 1 _ (by omega) (ya_upd hs hI hV hE z))
    · have keep : ya_I S K0 K1 n g rm rf rt ro d0 ch c (mv + 1) ds := ya_keep hI (fun x' k' hE' => absurd hE' (z x' k')) (fun x' k' hE' => absurd hE' (z x' k'))
      refine yw_knownM ?_
      refine pk_le 16 mv (fun w => ?_) (fun w => ?_)
      · exact ya_117 (k := 0) hc hdc (by omega) (by omega) (fun z => ih (mv + 1) ch ds (by omega) keep) (fun z => by omega)
      · exact ya_117 (k := 1) hc hdc (by omega) (by omega) (fun z => ih (mv + 1) ch ds (by omega) keep) (fun z => by omega)
theorem ya_62 {p : Nat} (hs : rc_S R S K0 K1 n g rm rf rt ro) (hrl : yw_rl n rm rf rt ro rl)
    (hJ : ∀ ch ds, ya_I S K0 K1 n g rm rf rt ro d0 ch 1536 0 ds → J47 (nI ch) (nI (p + 1)) (nA rl) (nA ds)) :
    ∀ d c ch ds, c + d = 1536 → ya_I S K0 K1 n g rm rf rt ro d0 ch c 0 ds → wY_analyse_62 post J47 (nI p) (nI S) (nI K0) (nI K1) (nI R) (nI n) (nI g) (nI cu) (nI an) (d + 1) (nI ch) (nI c) (nA rl) (nA ds) := by
  intro d
  induction d with
  | zero =>
    intro c ch ds hm hI
    have e : c = 1536 := by omega
    subst e
    exact br_t (nI_le (a := 1536) (by omega) (by omega)) (nm_r (nI_1 p) (hJ ch ds hI))
  | succ d ih =>
    intro c ch ds hm hI
    refine br_f (nI_ge (b := 1536) (by omega) (by omega)) ?_
    refine yw_validCode hs.1 (by omega) (fun hV => br_f ba_10 ⟨25, ?_⟩) (fun hV => br_t rfl (nm_r (nI_1 c) (ih (c + 1) ch ds (by omega) (ya_skip hV hI))))
    exact ya_83 hs hrl hV (fun ch' ds' hI' => ih (c + 1) ch' ds' (by omega) (ya_next hs.2.1 hI')) 24 0 ch ds rfl hI
theorem ct_z {P : Nat → Prop} : ∀ {N : Nat}, (∀ k, k < N → ¬ P k) → ct_n P N = 0
  | 0, _ => rfl
  | N + 1, h => by
    simp only [ct_n]
    rw [ct_z (N := N) (fun k hk => h k (by omega)), ct_bf (h N (by omega))]
theorem ya_47 (hs : rc_S R S K0 K1 n g rm rf rt ro) (hrl : yw_rl n rm rf rt ro rl)
    (hJ : ∀ ds, bf_OK S K0 K1 n g rm rf rt ro ds → wY_analyse_159 post (nI S) (nI K0) (nI K1) (nI R) (nI n) (nI g) (nI cu) (nI an) (nA rl) (nA ds)) :
    ∀ d p ch ds, p + d = 1536 → bf_S S K0 K1 n g rm rf rt ro ds → ct_n (fun c => ¬ bf_F S K0 K1 n g rm rf rt ro ds c) 1536 ≤ d → ch ≤ 1 → (ch = 0 → ∀ c, c < 1536 → bf_F S K0 K1 n g rm rf rt ro ds c) → wY_analyse_47 post (nI S) (nI K0) (nI K1) (nI R) (nI n) (nI g) (nI cu) (nI an) (d + 1) (nI ch) (nI p) (nA rl) (nA ds) := by
  intro d
  induction d with
  | zero =>
    intro p ch ds hm hS hC hch hF
    refine br_t (nI_le (a := 1536) (by omega) (by omega)) (hJ ds ⟨hS, fun c hc => ?_⟩)
    have := ct_0 (P := fun c => ¬ bf_F S K0 K1 n g rm rf rt ro ds c) (by omega) c hc
    exact Classical.byContradiction this
  | succ d ih =>
    intro p ch ds hm hS hC hch hF
    refine br_f (nI_ge (b := 1536) (by omega) (by omega)) ?_
    refine pk_eq ch 0 (fun z => hJ ds ⟨hS, hF z⟩) (fun z => ⟨1537, ?_⟩)
    refine ya_62 (d0 := ds) hs hrl (fun ch' ds' hI => ?_) 1536 0 0 ds rfl (ya_start hS)
    have hX := ya_X hI
    have hS' := hI.2.2.1
    refine ih (p + 1) ch' ds' (by omega) hS' ?_ hI.1 (fun z => ?_)
    · rcases bf_count hs hS' hX with y | y
      · rw [ct_z (P := fun c => ¬ bf_F S K0 K1 n g rm rf rt ro ds' c) (fun k hk hn => hn (bf_Xc hX hk (y k hk)))]
        omega
      · omega
    · have eq := hI.2.2.2.1 z
      have all := bf_pass hs hS' hX (fun c hc hf hV k hk => by have := hf hV k hk; rw [← eq c hc]; exact this)
      exact fun c hc => bf_Xc hX hc (all c hc)
theorem ya_2 (hs : rc_S R S K0 K1 n g rm rf rt ro) (hrl : yw_rl n rm rf rt ro rl)
    (hJ : ∀ ds, bf_OK S K0 K1 n g rm rf rt ro ds → wY_analyse_159 post (nI S) (nI K0) (nI K1) (nI R) (nI n) (nI g) (nI cu) (nI an) (nA rl) (nA ds)) :
    ∀ d c ds, c + d = 1536 → (∀ x, x < c → (cd_V S K0 K1 x ∧ cd_le g x → ds x = 0) ∧ (¬ (cd_V S K0 K1 x ∧ cd_le g x) → ds x = 1000000)) → wY_analyse_2 post (nI S) (nI K0) (nI K1) (nI R) (nI n) (nI g) (nI cu) (nI an) (d + 1) (nI c) (nA rl) (nA ds) := by
  have hg := (cd_lt hs.1 hs.2.2.2).1
  intro d
  induction d with
  | zero =>
    intro c ds hm hI
    refine br_t (nI_le (a := 1536) (by omega) (by omega)) ⟨1537, ?_⟩
    refine ya_47 hs hrl hJ 1536 0 1 ds rfl (fun x hx => ?_) (ct_le _ _) (by omega) (fun z => absurd z (by decide))
    obtain ⟨a, b⟩ := hI x (by omega)
    by_cases z : cd_V S K0 K1 x ∧ cd_le g x
    · have e := a z
      rw [e]
      exact ⟨by omega, fun y => absurd z.1 y, fun _ _ => z.2, fun _ _ => rfl⟩
    · have e := b z
      rw [e]
      exact ⟨by omega, fun _ => rfl, fun _ y => absurd y (by omega), fun y1 y2 => absurd ⟨y1, y2⟩ z⟩
  | succ d ih =>
    intro c ds hm hI
    have i15 : vp_in (nI c) 1536 := vp_in_nI (by omega) (by omega)
    have go : ∀ v, ((cd_V S K0 K1 c ∧ cd_le g c → v = 0) ∧ (¬ (cd_V S K0 K1 c ∧ cd_le g c) → v = 1000000)) → wY_analyse_2 post (nI S) (nI K0) (nI K1) (nI R) (nI n) (nI g) (nI cu) (nI an) (d + 1) (nI (c + 1)) (nA rl) (nA (ba_up ds c v)) := by
      intro v hv
      refine ih (c + 1) _ (by omega) (fun x hx => ?_)
      by_cases e : x = c
      · subst e
        rw [ba_us]; exact hv
      · rw [ba_un e]; exact hI x (by omega)
    have ue : ∀ v : Nat, upd (nA ds) (nI c).toNatClampNeg (nI v) = nA (ba_up ds c v) := by
      intro v
      rw [nI_clamp (by omega)]
      exact ba_upd ds c v
    refine br_f (nI_ge (b := 1536) (by omega) (by omega)) ?_
    refine yw_validCode hs.1 (by omega) (fun hV => br_f ba_10 ?_) (fun hV => br_t rfl ⟨i15, nm_r (ue 1000000) (nm_r (nI_1 c) (go 1000000 ⟨fun z => absurd z.1 hV, fun _ => rfl⟩))⟩)
    refine yw_covers (by omega) (by omega) (fun z => br_f ba_10 ⟨i15, nm_r (ue 0) (nm_r (nI_1 c) (go 0 ⟨fun _ => rfl, fun y => absurd ⟨hV, z⟩ y⟩))⟩) (fun z => br_t rfl ⟨i15, nm_r (ue 1000000) (nm_r (nI_1 c) (go 1000000 ⟨fun y => absurd y.2 z, fun _ => rfl⟩))⟩)
theorem yw_analyse (hs : rc_S R S K0 K1 n g rm rf rt ro) (hrl : yw_rl n rm rf rt ro rl) (h : ∀ ds', bf_OK S K0 K1 n g rm rf rt ro ds' → post (nI (vd_f R S K0 K1 n g rm rf rt ro)) (nI S, nI K0, nI K1, nI R, nI n, nI g, nI cu, nI 1, nA rl, nA ds')) : wpY_analyse post (nI S, nI K0, nI K1, nI R, nI n, nI g, nI cu, nI an, nA rl, nA ds) := by
  refine ⟨1537, ya_2 hs hrl (fun ds' hok => ?_) 1536 0 ds rfl (fun x hx => by omega)⟩
  unfold wY_analyse_159
  exact yw_verdict hs hrl hok (h ds' hok)
end
end
section
/-! the component's analysis: saturation -/
section
variable {post : SX → Prop} {S K0 K1 R cu g n N M an fl lv : Nat} {rm rf rt ro E D C : Nat → Nat}
theorem xw_addEntry {c s : Nat} (hN : N < 945) (hR : R < 2 ^ 31) (hs : s < 2 ^ 31) (h1 : s ≤ R → post (nI S, nI K0, nI K1, nI R, 9, nI cu, nI g, nI n, nI (N+1), nI M, nI an, nI fl, nI lv, nA rm, nA rf, nA rt, nA ro, nA (ba_up E N c), nA (ba_up D N s), nA C)) (h2 : R < s → post (nI S, nI K0, nI K1, nI R, 9, nI cu, nI g, nI n, nI N, nI M, nI an, nI 1, nI lv, nA rm, nA rf, nA rt, nA ro, nA E, nA D, nA C)) : wpX_addEntry post (nI S, nI K0, nI K1, nI R, 9, nI cu, nI g, nI n, nI N, nI M, nI an, nI fl, nI lv, nA rm, nA rf, nA rt, nA ro, nA E, nA D, nA C) (nI c) (nI s) := by
  have i9 : vp_in (nI N) 945 := vp_in_nI hN (by omega)
  have ue : ∀ (f : Nat → Nat) (v : Nat), upd (nA f) (nI N).toNatClampNeg (nI v) = nA (ba_up f N v) := by
    intro f v
    rw [nI_clamp (by omega)]
    exact ba_upd f N v
  refine pk_le s R (fun z => br_f (nI_ge (b := 945) (by omega) (by omega)) ⟨i9, nm_r (ue E c) ⟨i9, nm_r (ue D s) (nm_r (nI_1 N) (h1 z))⟩⟩) (fun z => h2 z)
theorem xw_exp11 {i dd : Nat} (hs : rc_S R S K0 K1 n g rm rf rt ro) (hJ : ∀ N fl E D, xs_I R S K0 K1 n g rm rf rt ro i n N fl E D → i < N → post (nI S, nI K0, nI K1, nI R, 9, nI cu, nI g, nI n, nI N, nI M, nI an, nI fl, nI lv, nA rm, nA rf, nA rt, nA ro, nA E, nA D, nA C)) :
    ∀ d r N fl E D, r + d = n → xs_I R S K0 K1 n g rm rf rt ro i r N fl E D → i < N → D i = dd → wX_expand_11 post (nI i) (nI (dd + 1)) (d + 1) (nI r) (nI S) (nI K0) (nI K1) (nI R) 9 (nI cu) (nI g) (nI n) (nI N) (nI M) (nI an) (nI fl) (nI lv) (nA rm) (nA rf) (nA rt) (nA ro) (nA E) (nA D) (nA C) := by
  have hn := hs.2.1
  have hR : R ≤ 32 := hs.1.2.2.2.2.2.2.2
  intro d
  induction d with
  | zero =>
    intro r N fl E D hr hI hi hd
    have e : r = n := by omega
    subst e
    exact br_t (nI_le (by omega) (by omega)) (hJ N fl E D hI hi)
  | succ d ih =>
    intro r N fl E D hr hI hi hd
    have hN := hI.1.2.1
    have a3 := hI.1.2.2.1
    have hE : ∀ j, j < N → E j < 2 ^ 31 := fun j hj => by have := (cd_lt hs.1 (a3 j hj).1).1; omega
    have hD : ∀ j, j < N → D j < 2 ^ 31 := fun j hj => by have := (a3 j hj).2.2; omega
    have eE : nA E (nI i).toNatClampNeg = nI (E i) := ba_at (by omega)
    refine br_f (nI_ge (by omega) (by omega)) ⟨vp_in_nI (by omega) (by omega), ?_⟩
    rw [eE]
    refine xw_mp hs.1 (a3 i hi).1 (by omega) (hs.2.2.1 r (by omega)) ?_
    have pe : xs_p S K0 K1 n g rm rf rt ro E i r = ru_mp K0 K1 (rm r) (rf r) (rt r) (ro r) (E i) := rfl
    rw [← pe]
    by_cases z : xs_p S K0 K1 n g rm rf rt ro E i r = 0
    · refine br_t (by rw [z]; rfl) (nm_r (nI_1 r) (ih (r + 1) N fl E D (by omega) (xs_skip hI (fun y => absurd z y)) hi hd))
    · obtain ⟨v, -⟩ := xs_pok hs hI hi (by omega) z
      have v15 := (cd_lt hs.1 v).1
      refine br_f (nI_ne0 (by omega) (by omega)) ?_
      refine xw_memR hN (by omega) hE hD (fun y => br_f ba_10 (nm_r (nI_1 r) (ih (r + 1) N fl E D (by omega) (xs_mem hI hi y) hi hd))) (fun y => br_t rfl ?_)
      have room := xs_room hs hI hi (by omega) z y
      have di := (a3 i hi).2.2
      refine xw_addEntry room (by omega) (by omega) (fun x => nm_r (nI_1 r) ?_) (fun x => nm_r (nI_1 r) ?_)
      · have I2 := xs_add hs hI hi (by omega) z y (by omega)
        rw [hd] at I2
        exact ih (r + 1) (N + 1) fl _ _ (by omega) I2 (by omega) (by rw [ba_un (by omega)]; exact hd)
      · exact ih (r + 1) N 1 E D (by omega) (xs_over hs hI hi (by omega) z y (by omega)) hi hd
theorem xw_expand {i : Nat} (hs : rc_S R S K0 K1 n g rm rf rt ro) (hI : xs_I R S K0 K1 n g rm rf rt ro i 0 N fl E D) (hi : i < N) (hJ : ∀ N fl E D, xs_I R S K0 K1 n g rm rf rt ro i n N fl E D → i < N → post (nI S, nI K0, nI K1, nI R, 9, nI cu, nI g, nI n, nI N, nI M, nI an, nI fl, nI lv, nA rm, nA rf, nA rt, nA ro, nA E, nA D, nA C)) : wpX_expand post (nI S, nI K0, nI K1, nI R, 9, nI cu, nI g, nI n, nI N, nI M, nI an, nI fl, nI lv, nA rm, nA rf, nA rt, nA ro, nA E, nA D, nA C) (nI i) := by
  have hN := hI.1.2.1
  refine ⟨vp_in_nI (by omega) (by omega), nm_r (e' := nI (D i + 1)) ?_ ⟨n + 1, xw_exp11 hs hJ n 0 N fl E D (by omega) hI hi rfl⟩⟩
  have e : nA D (nI i).toNatClampNeg = nI (D i) := ba_at (by omega)
  rw [e]
  exact nI_1 (D i)
theorem xw_sat29 (hs : rc_S R S K0 K1 n g rm rf rt ro) (hJ : ∀ N fl E D, xs_OK R S K0 K1 n g rm rf rt ro N fl E D → post (nI S, nI K0, nI K1, nI R, 9, nI cu, nI g, nI n, nI N, nI M, nI an, nI fl, nI lv, nA rm, nA rf, nA rt, nA ro, nA E, nA D, nA C)) :
    ∀ d i N fl E D, i + d = 945 → xs_I R S K0 K1 n g rm rf rt ro i 0 N fl E D → i ≤ N → wX_saturate_29 post (d + 1) (nI i) (nI S) (nI K0) (nI K1) (nI R) 9 (nI cu) (nI g) (nI n) (nI N) (nI M) (nI an) (nI fl) (nI lv) (nA rm) (nA rf) (nA rt) (nA ro) (nA E) (nA D) (nA C) := by
  intro d
  induction d with
  | zero =>
    intro i N fl E D hd hI hi
    have hN := hI.1.2.1
    have e : i = N := by omega
    subst e
    exact br_t (nI_le (a := 945) (by omega) (by omega)) (hJ i fl E D (xs_end hs hI))
  | succ d ih =>
    intro i N fl E D hd hI hi
    have hN := hI.1.2.1
    refine br_f (nI_ge (b := 945) (by omega) (by omega)) ?_
    refine pk_le N i (fun z => ?_) (fun z => ?_)
    · have e : i = N := by omega
      subst e
      exact hJ i fl E D (xs_end hs hI)
    · exact xw_expand hs hI z (fun N' fl' E' D' hI' hi' => nm_r (nI_1 i) (ih (i + 1) N' fl' E' D' (by omega) (xs_next hI' hi') (by omega)))
theorem xw_saturate (hs : rc_S R S K0 K1 n g rm rf rt ro) (hJ : ∀ N fl E D, xs_OK R S K0 K1 n g rm rf rt ro N fl E D → post (nI S, nI K0, nI K1, nI R, 9, nI cu, nI g, nI n, nI N, nI M, nI an, nI fl, nI lv, nA rm, nA rf, nA rt, nA ro, nA E, nA D, nA C)) : wpX_saturate post (nI S, nI K0, nI K1, nI R, 9, nI cu, nI g, nI n, nI N, nI M, nI an, nI fl, nI lv, nA rm, nA rf, nA rt, nA ro, nA E, nA D, nA C) := by
  refine nm_r (ba_upd E 0 g) (nm_r (e' := nA (ba_up D 0 0)) (ba_upd D 0 0) ⟨946, ?_⟩)
  exact xw_sat29 hs hJ 945 0 1 0 (ba_up E 0 g) (ba_up D 0 0) rfl (xs_0 hs) (by omega)
end
/-! minimal entries -/
section
variable {post : Int32 → Prop} {S K0 K1 R cu g n N M an fl lv : Nat} {rm rf rt ro E D C : Nat → Nat}
theorem xw_min2 {i : Nat} (hi : i < N) (hN : N ≤ 945) (hE : ∀ j, j < N → E j < 2 ^ 31) (h1 : mn_x N E i → post 1) (h0 : ¬ mn_x N E i → post 0) :
    ∀ d j, j + d = N → (∀ k, k < j → k ≠ i → ¬ cd_le (E k) (E i)) → wX_isMinimalEntry_2 post (nI i) (nI S) (nI K0) (nI K1) (nI R) 9 (nI cu) (nI g) (nI n) (nI N) (nI M) (nI an) (nI fl) (nI lv) (nA rm) (nA rf) (nA rt) (nA ro) (nA E) (nA D) (nA C) (d + 1) (nI j) := by
  intro d
  induction d with
  | zero =>
    intro j hj hk
    exact br_t (nI_le (by omega) (by omega)) (h1 (fun k hk' => hk k (by omega)))
  | succ d ih =>
    intro j hj hk
    have nx : (j ≠ i → ¬ cd_le (E j) (E i)) → wX_isMinimalEntry_2 post (nI i) (nI S) (nI K0) (nI K1) (nI R) 9 (nI cu) (nI g) (nI n) (nI N) (nI M) (nI an) (nI fl) (nI lv) (nA rm) (nA rf) (nA rt) (nA ro) (nA E) (nA D) (nA C) (d + 1) (nI (j + 1)) := by
      intro z
      refine ih (j + 1) (by omega) (fun k hk' => ?_)
      rcases Nat.lt_or_ge k j with y | y
      · exact hk k y
      · have e : k = j := by omega
        rw [e]; exact z
    refine br_f (nI_ge (by omega) (by omega)) ?_
    refine pk_eq j i (fun z => nm_r (nI_1 j) (nx (fun y => absurd z y))) (fun z => ⟨vp_in_nI (by omega) (by omega), vp_in_nI (by omega) (by omega), ?_⟩)
    have e1 : nA E (nI j).toNatClampNeg = nI (E j) := ba_at (by omega)
    have e2 : nA E (nI i).toNatClampNeg = nI (E i) := ba_at (by omega)
    rw [e1, e2]
    exact xw_isBelow (hE j (by omega)) (hE i hi) (fun y => br_f ba_10 (h0 (fun x => x j (by omega) z y))) (fun y => br_t rfl (nm_r (nI_1 j) (nx (fun _ => y))))
theorem xw_isMin {i : Nat} (hi : i < N) (hN : N ≤ 945) (hE : ∀ j, j < N → E j < 2 ^ 31) (h1 : mn_x N E i → post 1) (h0 : ¬ mn_x N E i → post 0) : wpX_isMinimalEntry post (nI S, nI K0, nI K1, nI R, 9, nI cu, nI g, nI n, nI N, nI M, nI an, nI fl, nI lv, nA rm, nA rf, nA rt, nA ro, nA E, nA D, nA C) (nI i) :=
  ⟨N + 1, xw_min2 hi hN hE h1 h0 N 0 (by omega) (fun k hk => by omega)⟩
end
section
variable {post : SX → Prop} {S K0 K1 R cu g n N M an fl lv : Nat} {rm rf rt ro E D C : Nat → Nat}
theorem xw_ins49 {s v : Nat} (hM : M < 945)
    (hJ : ∀ C', (∀ j, j < s → C' j = C j) → C' s = v → (∀ j, s ≤ j → j < M → C' (j + 1) = C j) → post (nI S, nI K0, nI K1, nI R, 9, nI cu, nI g, nI n, nI N, nI (M+1), nI an, nI fl, nI lv, nA rm, nA rf, nA rt, nA ro, nA E, nA D, nA C')) :
    ∀ d i C', i = s + d → i ≤ M → (∀ j, j < i → C' j = C j) → (∀ j, i ≤ j → j < M → C' (j + 1) = C j) → wX_insertMinimal_49 post (nI v) (nI s) (nI S) (nI K0) (nI K1) (nI R) 9 (nI cu) (nI g) (nI n) (nI N) (nI M) (nI an) (nI fl) (nI lv) (d + 1) (nI i) (nA rm) (nA rf) (nA rt) (nA ro) (nA E) (nA D) (nA C') := by
  intro d
  induction d with
  | zero =>
    intro i C' hi hM' h1 h2
    have e : i = s := by omega
    subst e
    refine br_t (nI_le (by omega) (by omega)) ⟨vp_in_nI (by omega) (by omega), nm_r (e' := nA (ba_up C' i v)) ?_ (nm_r (nI_1 M) (hJ _ (fun j hj => ?_) ba_us (fun j a b => ?_)))⟩
    · rw [nI_clamp (by omega)]
      exact ba_upd C' i v
    · rw [ba_un (by omega)]; exact h1 j hj
    · rw [ba_un (by omega)]; exact h2 j a b
  | succ d ih =>
    intro i C' hi hM' h1 h2
    obtain ⟨k, rfl⟩ : ∃ k, i = k + 1 := ⟨i - 1, by omega⟩
    have e1 : nI (k + 1) - 1 = nI k := nI_pred k
    refine br_f (nI_ge (by omega) (by omega)) ⟨by rw [e1]; exact vp_in_nI (by omega) (by omega), vp_in_nI (by omega) (by omega), nm_r (e' := nA (ba_up C' (k + 1) (C' k))) ?_ (nm_r (pk_m1 k) (ih k _ (by omega) (by omega) (fun j hj => ?_) (fun j a b => ?_)))⟩
    · have e2 : nA C' (nI k).toNatClampNeg = nI (C' k) := ba_at (by omega)
      rw [e1, e2, nI_clamp (by omega)]
      exact ba_upd C' (k + 1) (C' k)
    · rw [ba_un (by omega)]; exact h1 j (by omega)
    · by_cases e : j = k
      · subst e
        rw [ba_us]; exact h1 j (by omega)
      · rw [ba_un (by omega)]; exact h2 j (by omega) b
theorem xw_ins17 {v : Nat} (hM : M < 945) (hv : v < 2 ^ 31) (hC : ∀ j, j < M → C j < 2 ^ 31) (hsrt : ∀ a b, a < b → b < M → C a < C b) (hne : ∀ j, j < M → C j ≠ v)
    (hJ : ∀ s C', s ≤ M → (∀ j, j < s → C j < v) → (∀ j, s ≤ j → j < M → v < C j) → (∀ j, j < s → C' j = C j) → C' s = v → (∀ j, s ≤ j → j < M → C' (j + 1) = C j) → post (nI S, nI K0, nI K1, nI R, 9, nI cu, nI g, nI n, nI N, nI (M+1), nI an, nI fl, nI lv, nA rm, nA rf, nA rt, nA ro, nA E, nA D, nA C')) :
    ∀ d s i, i + d = M → s ≤ i → (∀ j, j < s → C j < v) → (∀ j, s ≤ j → j < i → v < C j) → wX_insertMinimal_17 post (nI v) (nI S) (nI K0) (nI K1) (nI R) 9 (nI cu) (nI g) (nI n) (nI N) (nI M) (nI an) (nI fl) (nI lv) (nA rm) (nA rf) (nA rt) (nA ro) (nA E) (nA D) (nA C) (d + 1) (nI s) (nI i) := by
  intro d
  induction d with
  | zero =>
    intro s i hi hsi h1 h2
    have e : i = M := by omega
    subst e
    refine br_t (nI_le (by omega) (by omega)) ⟨i - s + 1, ?_⟩
    exact xw_ins49 hM (fun C' => hJ s C' hsi h1 h2) (i - s) i C (by omega) (by omega) (fun j _ => rfl) (fun j a b => by omega)
  | succ d ih =>
    intro s i hi hsi h1 h2
    have e : nA C (nI i).toNatClampNeg = nI (C i) := ba_at (by omega)
    have hci := hC i (by omega)
    refine br_f (nI_ge (by omega) (by omega)) ⟨vp_in_nI (by omega) (by omega), ?_⟩
    refine pk_le v (C i) (fun z => nm_r (nI_1 i) (ih s (i + 1) (by omega) (by omega) h1 (fun j a b => ?_))) (fun z => ?_) rfl e
    · rcases Nat.lt_or_ge j i with y | y
      · exact h2 j a y
      · have e : j = i := by omega
        rw [e]
        have := hne i (by omega)
        omega
    · have es : s = i := by
        rcases Nat.lt_or_ge s i with y | y
        · have a := h2 s (Nat.le_refl _) y
          have b := hsrt s i y (by omega)
          omega
        · omega
      subst es
      refine nm_r (nI_1 s) (nm_r (nI_1 s) (ih (s + 1) (s + 1) (by omega) (by omega) (fun j hj => ?_) (fun j a b => by omega)))
      rcases Nat.lt_or_ge j s with y | y
      · exact h1 j y
      · have e : j = s := by omega
        rw [e]; exact z
theorem xw_insert {v : Nat} {P : Nat → Prop} (hM : M < 945) (hv : v < 2 ^ 31) (hP : ∀ c, P c → c < 2 ^ 31) (h : mn_C M C P) (hn : ¬ P v)
    (hJ : ∀ C', mn_C (M + 1) C' (fun c => P c ∨ c = v) → post (nI S, nI K0, nI K1, nI R, 9, nI cu, nI g, nI n, nI N, nI (M+1), nI an, nI fl, nI lv, nA rm, nA rf, nA rt, nA ro, nA E, nA D, nA C')) : wpX_insertMinimal post (nI S, nI K0, nI K1, nI R, 9, nI cu, nI g, nI n, nI N, nI M, nI an, nI fl, nI lv, nA rm, nA rf, nA rt, nA ro, nA E, nA D, nA C) (nI v) := by
  refine br_t (nI_lt (b := 945) hM (by omega)) ⟨M + 1, ?_⟩
  refine xw_ins17 hM hv (fun j hj => hP _ ((h.2 _).mpr ⟨j, hj, rfl⟩)) h.1 (fun j hj e => hn ((h.2 v).mpr ⟨j, hj, e⟩)) (fun s C' hs h1 h2 e1 e2 e3 => hJ C' (mn_ins h hs h1 h2 e1 e2 e3)) M 0 0 (by omega) (by omega) (fun j hj => by omega) (fun j a b => by omega)
theorem xw_col7 (hs : rc_S R S K0 K1 n g rm rf rt ro) (hA : xs_A R S K0 K1 n g rm rf rt ro N E D) (hJ : ∀ M C, mn_C M C (fun c => ∃ j, j < N ∧ E j = c ∧ mn_x N E j) → M ≤ N → post (nI S, nI K0, nI K1, nI R, 9, nI cu, nI g, nI n, nI N, nI M, nI an, nI fl, nI lv, nA rm, nA rf, nA rt, nA ro, nA E, nA D, nA C)) :
    ∀ d i M C, i + d = N → M ≤ i → mn_C M C (fun c => ∃ j, j < i ∧ E j = c ∧ mn_x N E j) → wX_collectMinimals_7 post (d + 1) (nI i) (nI S) (nI K0) (nI K1) (nI R) 9 (nI cu) (nI g) (nI n) (nI N) (nI M) (nI an) (nI fl) (nI lv) (nA rm) (nA rf) (nA rt) (nA ro) (nA E) (nA D) (nA C) := by
  obtain ⟨a1, a2, a3, a4, -⟩ := hA
  have hE : ∀ j, j < N → E j < 2 ^ 31 := fun j hj => by have := (cd_lt hs.1 (a3 j hj).1).1; omega
  intro d
  induction d with
  | zero =>
    intro i M C hi hM hC
    have e : i = N := by omega
    subst e
    exact br_t (nI_le (by omega) (by omega)) (hJ M C hC hM)
  | succ d ih =>
    intro i M C hi hM hC
    have hiN : i < N := by omega
    refine br_f (nI_ge (by omega) (by omega)) ?_
    refine xw_isMin hiN a2 hE (fun z => br_f ba_10 ⟨vp_in_nI (by omega) (by omega), ?_⟩) (fun z => br_t rfl (nm_r (nI_1 i) (ih (i + 1) M C (by omega) (by omega) (mn_congr hC (fun c => ⟨?_, ?_⟩)))))
    · have e : nA E (nI i).toNatClampNeg = nI (E i) := ba_at (by omega)
      rw [e]
      refine xw_insert (by omega) (hE i hiN) ?_ hC ?_ (fun C' hC' => nm_r (nI_1 i) (ih (i + 1) (M + 1) C' (by omega) (by omega) (mn_congr hC' (fun c => ⟨?_, ?_⟩))))
      · rintro c ⟨j, hj, rfl, -⟩
        exact hE j (by omega)
      · rintro ⟨j, hj, e, -⟩
        exact (a4 j i hj hiN).2 (by rw [e]; exact cd_refl (a3 i hiN).1)
      · rintro ⟨j, hj, e, hx⟩
        rcases Nat.lt_or_ge j i with y | y
        · exact Or.inl ⟨j, y, e, hx⟩
        · have ej : j = i := by omega
          right; rw [← e, ej]
      · rintro (⟨j, hj, e, hx⟩ | e)
        · exact ⟨j, by omega, e, hx⟩
        · exact ⟨i, by omega, e.symm, z⟩
    · rintro ⟨j, hj, e, hx⟩
      rcases Nat.lt_or_ge j i with y | y
      · exact ⟨j, y, e, hx⟩
      · have ej : j = i := by omega
        rw [ej] at hx
        exact absurd hx z
    · rintro ⟨j, hj, e, hx⟩
      exact ⟨j, by omega, e, hx⟩
theorem xw_collect (hs : rc_S R S K0 K1 n g rm rf rt ro) (hok : xs_OK R S K0 K1 n g rm rf rt ro N fl E D) (hJ : ∀ M C, mn_C M C (mn_m R S K0 K1 n g rm rf rt ro) → M ≤ N → post (nI S, nI K0, nI K1, nI R, 9, nI cu, nI g, nI n, nI N, nI M, nI an, nI fl, nI lv, nA rm, nA rf, nA rt, nA ro, nA E, nA D, nA C)) : wpX_collectMinimals post (nI S, nI K0, nI K1, nI R, 9, nI cu, nI g, nI n, nI N, nI M, nI an, nI fl, nI lv, nA rm, nA rf, nA rt, nA ro, nA E, nA D, nA C) := by
  refine ⟨N + 1, ?_⟩
  exact xw_col7 hs hok.1 (fun M C hC hM => hJ M C (mn_congr hC (fun c => mn_iff hok c)) hM) N 0 0 C (by omega) (by omega) mn_C0
end
/-! membership, the verdict -/
section
variable {post : Int32 → Prop} {S K0 K1 R cu g n N M an fl lv : Nat} {rm rf rt ro E D C : Nat → Nat}
theorem xw_memV {c : Nat} (hs : rc_S R S K0 K1 n g rm rf rt ro) (hok : xs_OK R S K0 K1 n g rm rf rt ro N fl E D) (hV : cd_V S K0 K1 c) (h1 : rc_R S K0 K1 n g rm rf rt ro R c → post 1) (h0 : ¬ rc_R S K0 K1 n g rm rf rt ro R c → post 0) : wpX_isMember post (nI S, nI K0, nI K1, nI R, 9, nI cu, nI g, nI n, nI N, nI M, nI an, nI fl, nI lv, nA rm, nA rf, nA rt, nA ro, nA E, nA D, nA C) (nI c) := by
  have hR : R ≤ 32 := hs.1.2.2.2.2.2.2.2
  obtain ⟨a1, a2, a3, -⟩ := hok.1
  have e := xs_iff hok hV
  refine xw_memR a2 (by have := (cd_lt hs.1 hV).1; omega) (fun j hj => by have := (cd_lt hs.1 (a3 j hj).1).1; omega) (fun j hj => by have := (a3 j hj).2.2; omega) (fun z => h1 (e.mp z)) (fun z => h0 (fun y => ?_))
  obtain ⟨j, hj, hl⟩ := e.mpr y
  exact z j hj hl
theorem xw_distV {c : Nat} (hs : rc_S R S K0 K1 n g rm rf rt ro) (hok : xs_OK R S K0 K1 n g rm rf rt ro N fl E D) (hV : cd_V S K0 K1 c) (h1 : ∀ k, k ≤ R → rc_R S K0 K1 n g rm rf rt ro k c → (∀ j, rc_R S K0 K1 n g rm rf rt ro j c → k ≤ j) → post (nI k)) (h0 : ¬ rc_R S K0 K1 n g rm rf rt ro R c → post (-3)) : wpX_distanceOf post (nI S, nI K0, nI K1, nI R, 9, nI cu, nI g, nI n, nI N, nI M, nI an, nI fl, nI lv, nA rm, nA rf, nA rt, nA ro, nA E, nA D, nA C) (nI c) := by
  have hR : R ≤ 32 := hs.1.2.2.2.2.2.2.2
  obtain ⟨a1, a2, a3, -⟩ := hok.1
  have e := xs_iff hok hV
  refine xw_distR a2 (by have := (cd_lt hs.1 hV).1; omega) (fun j hj => by have := (cd_lt hs.1 (a3 j hj).1).1; omega) (fun j hj hl hf => ?_) (fun z => h0 (fun y => ?_))
  · obtain ⟨f1, f2, f3⟩ := xs_first hok hV hj hl hf
    exact h1 _ f1 f2 f3
  · obtain ⟨j, hj, hl⟩ := e.mpr y
    exact z j hj hl
theorem xw_del10 {c q w : Nat} (hs : rc_S R S K0 K1 n g rm rf rt ro) (hok : xs_OK R S K0 K1 n g rm rf rt ro N fl E D) (hc : c < 1536) (hq : q < 2) (hw : w < 32) (hf : ∀ i, i < wk_len w → cd_fw q (wk_wo w i) ∧ cd_V S K0 K1 (cd_sw c q (wk_wo w i)))
    (h1 : (∃ i, i < wk_len w ∧ rc_R S K0 K1 n g rm rf rt ro R (cd_sw c q (wk_wo w i))) → post 1) (h0 : (∀ i, i < wk_len w → ¬ rc_R S K0 K1 n g rm rf rt ro R (cd_sw c q (wk_wo w i))) → post 0) :
    ∀ d i, i + d = wk_len w → (∀ k, k < i → ¬ rc_R S K0 K1 n g rm rf rt ro R (cd_sw c q (wk_wo w k))) → wX_hasMemberByDeletion_10 post (nI c) (nI q) (nI w) (nI (wk_len w)) (nI S) (nI K0) (nI K1) (nI R) 9 (nI cu) (nI g) (nI n) (nI N) (nI M) (nI an) (nI fl) (nI lv) (nA rm) (nA rf) (nA rt) (nA ro) (nA E) (nA D) (nA C) (d + 1) (nI i) := by
  have l4 := wk_len4 w hw
  intro d
  induction d with
  | zero =>
    intro i hi hk
    exact br_t (nI_le (by omega) (by omega)) (h0 (fun k hk' => hk k (by omega)))
  | succ d ih =>
    intro i hi hk
    obtain ⟨f1, f2⟩ := hf i (by omega)
    refine br_f (nI_ge (by omega) (by omega)) ?_
    refine xw_without hw (by omega) (xw_withWord hc hq f1 ?_)
    refine xw_memV hs hok f2 (fun z => br_f ba_10 (h1 ⟨i, by omega, z⟩)) (fun z => br_t rfl (nm_r (nI_1 i) (ih (i + 1) (by omega) (fun k hk' => ?_))))
    rcases Nat.lt_or_ge k i with y | y
    · exact hk k y
    · have e : k = i := by omega
      rw [e]; exact z
theorem xw_uns {c r : Nat} (hs : rc_S R S K0 K1 n g rm rf rt ro) (hok : xs_OK R S K0 K1 n g rm rf rt ro N fl E D) (hV : cd_V S K0 K1 c) (hr : r < n) (h1 : vd_u R S K0 K1 n g rm rf rt ro r c → post 1) (h0 : ¬ vd_u R S K0 K1 n g rm rf rt ro r c → post 0) : wpX_isUnsupported post (nI S, nI K0, nI K1, nI R, 9, nI cu, nI g, nI n, nI N, nI M, nI an, nI fl, nI lv, nA rm, nA rf, nA rt, nA ro, nA E, nA D, nA C) (nI c) (nI r) := by
  have hp := hs.1
  have hn := hs.2.1
  have hru := hs.2.2.1 r hr
  have hS := hp.2.1
  have hc := (cd_lt hp hV).1
  obtain ⟨hm, hf, ht, ho⟩ := hru
  have i12 : vp_in (nI r) 12 := vp_in_nI (by omega) (by omega)
  have em : nA rm (nI r).toNatClampNeg = nI (rm r) := ba_at (by omega)
  have ef : nA rf (nI r).toNatClampNeg = nI (rf r) := ba_at (by omega)
  have et : nA rt (nI r).toNatClampNeg = nI (rt r) := ba_at (by omega)
  have eo : nA ro (nI r).toNatClampNeg = nI (ro r) := ba_at (by omega)
  have hq := ru_q2 (ro r)
  have hl := ru_l2 (ro r)
  have hw := cd_w16 (c := c) hq
  have l3 := wk_len3 _ hw
  have hV' := cd_Vss hV hm hf (by omega)
  have st3 : cd_st c (rm r) < 3 := by have := cd_Vt hV hm; omega
  refine ⟨i12, nm_r eo ⟨i12, nm_r em ?_⟩⟩
  refine pk_lt (ro r) 5 (fun z => h0 (fun y => by have := y.1; omega)) (fun z => ?_)
  refine xw_stateOf (by omega) hm ⟨i12, ?_⟩
  refine pk_eq (cd_st c (rm r)) (rt r) (fun e => ?_) (fun e => h0 (fun y => e y.2.1)) rfl et
  refine xw_queueOf (by omega) (by omega) (xw_wordOf (by omega) hq ?_)
  refine xw_isFull (by have := hp.2.2.2.1; omega) (by have := hp.2.2.2.2.2.1; omega) (by omega) hq (fun fu => br_f ba_10 ?_) (fun fu => br_t rfl (h0 (fun y => fu y.2.2.1)))
  refine xw_letterOf (by omega) (by omega) (xw_prepend hw (cd_Vw hV hq).1 hl ⟨i12, ?_⟩)
  rw [ef]
  refine xw_withState hc hm (by omega) ?_
  obtain ⟨q1, q2⟩ := wk_q4 _ hw _ hl (cd_Vw hV hq).1
  unfold wpX_hasMemberByDeletion
  dsimp only
  refine xw_length q1 ⟨wk_len (wk_pp (ru_l (ro r)) (cd_wd c (ru_q (ro r)))) + 1, ?_⟩
  refine xw_del10 hs hok (cd_lt hp hV').1 hq q1 (fun i hi => ?_) (fun y => br_f ba_10 (h0 (fun x => ?_))) (fun y => br_t rfl (h1 ⟨z, e, fu, fun i hi => y i (by omega)⟩)) _ 0 (by omega) (fun k hk => by omega)
  · obtain ⟨f1, f2, f3⟩ := vd_fdl (i := i) hp hq hl hV (by omega)
    exact ⟨f1, cd_Vsw hV' hq f1 f2 f3⟩
  · obtain ⟨i, y1, y2⟩ := y
    exact x.2.2.2 i (by omega) y2
theorem xw_le12 {i : Nat} {J : Int32 → Prop} (hs : rc_S R S K0 K1 n g rm rf rt ro) (hok : xs_OK R S K0 K1 n g rm rf rt ro N fl E D) (hi : i < M) (hM : M ≤ 945) (hV : cd_V S K0 K1 (C i))
    (h1 : (∃ r, r < n ∧ vd_u R S K0 K1 n g rm rf rt ro r (C i)) → post 1) (hJ : (∀ r, r < n → ¬ vd_u R S K0 K1 n g rm rf rt ro r (C i)) → J (nI (i + 1))) :
    ∀ d r, r + d = n → (∀ k, k < r → ¬ vd_u R S K0 K1 n g rm rf rt ro k (C i)) → wX_lengthExceeded_12 post J (nI i) (nI S) (nI K0) (nI K1) (nI R) 9 (nI cu) (nI g) (nI n) (nI N) (nI M) (nI an) (nI fl) (nI lv) (nA rm) (nA rf) (nA rt) (nA ro) (nA E) (nA D) (nA C) (d + 1) (nI r) := by
  have hn := hs.2.1
  intro d
  induction d with
  | zero =>
    intro r hr hk
    exact br_t (nI_le (by omega) (by omega)) (nm_r (nI_1 i) (hJ (fun k hk' => hk k (by omega))))
  | succ d ih =>
    intro r hr hk
    have e : nA C (nI i).toNatClampNeg = nI (C i) := ba_at (by omega)
    refine br_f (nI_ge (by omega) (by omega)) ⟨vp_in_nI (by omega) (by omega), ?_⟩
    rw [e]
    refine xw_uns hs hok hV (by omega) (fun z => br_f ba_10 (h1 ⟨r, by omega, z⟩)) (fun z => br_t rfl (nm_r (nI_1 r) (ih (r + 1) (by omega) (fun k hk' => ?_))))
    rcases Nat.lt_or_ge k r with y | y
    · exact hk k y
    · have e : k = r := by omega
      rw [e]; exact z
theorem xw_le2 (hs : rc_S R S K0 K1 n g rm rf rt ro) (hok : xs_OK R S K0 K1 n g rm rf rt ro N fl E D) (hM : M ≤ 945) (hV : ∀ i, i < M → cd_V S K0 K1 (C i))
    (h1 : (∃ i r, i < M ∧ r < n ∧ vd_u R S K0 K1 n g rm rf rt ro r (C i)) → post 1) (h0 : (∀ i r, i < M → r < n → ¬ vd_u R S K0 K1 n g rm rf rt ro r (C i)) → post 0) :
    ∀ d i, i + d = M → (∀ k r, k < i → r < n → ¬ vd_u R S K0 K1 n g rm rf rt ro r (C k)) → wX_lengthExceeded_2 post (nI S) (nI K0) (nI K1) (nI R) 9 (nI cu) (nI g) (nI n) (nI N) (nI M) (nI an) (nI fl) (nI lv) (nA rm) (nA rf) (nA rt) (nA ro) (nA E) (nA D) (nA C) (d + 1) (nI i) := by
  have hn := hs.2.1
  intro d
  induction d with
  | zero =>
    intro i hi hk
    exact br_t (nI_le (by omega) (by omega)) (h0 (fun k r hk' hr => hk k r (by omega) hr))
  | succ d ih =>
    intro i hi hk
    refine br_f (nI_ge (by omega) (by omega)) ⟨n + 1, ?_⟩
    refine xw_le12 hs hok (by omega) hM (hV i (by omega)) (fun ⟨r, z1, z2⟩ => h1 ⟨i, r, by omega, z1, z2⟩) (fun z => ih (i + 1) (by omega) (fun k r hk' hr => ?_)) n 0 (by omega) (fun k hk' => by omega)
    rcases Nat.lt_or_ge k i with y | y
    · exact hk k r y hr
    · have e : k = i := by omega
      rw [e]; exact z r hr
theorem xw_decide (hs : rc_S R S K0 K1 n g rm rf rt ro) (hok : xs_OK R S K0 K1 n g rm rf rt ro N fl E D) (hC : mn_C M C (mn_m R S K0 K1 n g rm rf rt ro)) (hM : M ≤ 945) (h : post (nI (vd_f R S K0 K1 n g rm rf rt ro))) : wpX_decide post (nI S, nI K0, nI K1, nI R, 9, nI cu, nI g, nI n, nI N, nI M, nI an, nI fl, nI lv, nA rm, nA rf, nA rt, nA ro, nA E, nA D, nA C) := by
  unfold wpX_decide
  dsimp only
  refine xw_memV (c := 9) hs hok (yw_V9 hs.1) (fun z => br_f ba_10 ?_) (fun z => br_t rfl ?_)
  · rw [vd_1 z] at h; exact h
  · rcases hok.2.2.1 with e | e
    · refine br_t (by rw [e]; rfl) ?_
      have cl := hok.2.2.2.2 e
      have hB : ¬ vd_B R S K0 K1 n g rm rf rt ro := fun ⟨c, y1, y2, y3⟩ => y2 (cl _ c y1 y3)
      refine ⟨M + 1, ?_⟩
      have mm : ∀ i, i < M → mn_m R S K0 K1 n g rm rf rt ro (C i) := fun i hi => (hC.2 _).mpr ⟨i, hi, rfl⟩
      refine xw_le2 hs hok hM (fun i hi => (mm i hi).1) (fun y => br_f ba_10 ?_) (fun y => br_t rfl ?_) M 0 (by omega) (fun k r hk => by omega)
      · obtain ⟨i, r, y1, y2, y3⟩ := y
        rw [vd_3 z hB ⟨r, C i, y2, (mm i y1).1, (mm i y1).2.1, y3⟩] at h
        exact h
      · have hU : ¬ vd_U R S K0 K1 n g rm rf rt ro := by
          intro u
          obtain ⟨r, m, u1, u2, u3⟩ := vd_min hs cl u
          obtain ⟨i, u4, rfl⟩ := (hC.2 m).mp u2
          exact y i r u4 u1 u3
        rw [vd_2 z hB hU] at h
        exact h
    · refine br_f (by rw [e]; exact ba_10) ?_
      obtain ⟨p, y1, y2, y3⟩ := hok.2.2.2.1 e
      rw [vd_4 z ⟨p, y1, y3, y2⟩] at h
      exact h
end
section
variable {post : Int32 → SX → Prop} {S K0 K1 R cu g n N M an fl lv : Nat} {rm rf rt ro E D C : Nat → Nat}
theorem xw_analyse (hs : rc_S R S K0 K1 n g rm rf rt ro) (h : ∀ N M fl E D C, xs_OK R S K0 K1 n g rm rf rt ro N fl E D → mn_C M C (mn_m R S K0 K1 n g rm rf rt ro) → M ≤ N → post (nI (vd_f R S K0 K1 n g rm rf rt ro)) (nI S, nI K0, nI K1, nI R, 9, nI cu, nI g, nI n, nI N, nI M, nI 1, nI fl, nI (vd_f R S K0 K1 n g rm rf rt ro), nA rm, nA rf, nA rt, nA ro, nA E, nA D, nA C)) : wpX_analyse post (nI S, nI K0, nI K1, nI R, 9, nI cu, nI g, nI n, nI N, nI M, nI an, nI fl, nI lv, nA rm, nA rf, nA rt, nA ro, nA E, nA D, nA C) := by
  unfold wpX_analyse
  dsimp only
  refine xw_saturate hs (fun N fl E D hok => ?_)
  refine xw_collect hs hok (fun M C hC hM => ?_)
  exact xw_decide hs hok hC (by have := hok.1.2.1; omega) (h N M fl E D C hok hC hM)
end
end
section
/-! the relation, and the calls that need no analysis -/
def ir_A (R S K0 K1 n g : Nat) (rm rf rt ro : Nat → Nat) (N M fl lv : Nat) (E D C ds : Nat → Nat) : Prop :=
  bf_OK S K0 K1 n g rm rf rt ro ds ∧ xs_OK R S K0 K1 n g rm rf rt ro N fl E D ∧ mn_C M C (mn_m R S K0 K1 n g rm rf rt ro) ∧ M ≤ 945 ∧ lv = vd_f R S K0 K1 n g rm rf rt ro
def ir_F (R S K0 K1 n g : Nat) (rm rf rt ro : Nat → Nat) (cu N M an fl lv : Nat) (E D C rl ds : Nat → Nat) : Prop :=
  rc_S R S K0 K1 n g rm rf rt ro ∧ yw_rl n rm rf rt ro rl ∧ cd_V S K0 K1 cu ∧ (an = 0 ∨ (an = 1 ∧ ir_A R S K0 K1 n g rm rf rt ro N M fl lv E D C ds))
def ir_R (u : SX) (v : SY) : Prop := ∃ S K0 K1 R cu g n N M an fl lv : Nat, ∃ rm rf rt ro E D C rl ds : Nat → Nat,
  u = (nI S, nI K0, nI K1, nI R, 9, nI cu, nI g, nI n, nI N, nI M, nI an, nI fl, nI lv, nA rm, nA rf, nA rt, nA ro, nA E, nA D, nA C) ∧ v = (nI S, nI K0, nI K1, nI R, nI n, nI g, nI cu, nI an, nA rl, nA ds) ∧ ir_F R S K0 K1 n g rm rf rt ro cu N M an fl lv E D C rl ds
theorem ir_el {P : SX → SY → Prop} {u : SX} {v : SY} (h : ∀ (S K0 K1 R cu g n N M an fl lv : Nat) (rm rf rt ro E D C rl ds : Nat → Nat), ir_F R S K0 K1 n g rm rf rt ro cu N M an fl lv E D C rl ds → P (nI S, nI K0, nI K1, nI R, 9, nI cu, nI g, nI n, nI N, nI M, nI an, nI fl, nI lv, nA rm, nA rf, nA rt, nA ro, nA E, nA D, nA C) (nI S, nI K0, nI K1, nI R, nI n, nI g, nI cu, nI an, nA rl, nA ds)) (I : ir_R u v) : P u v :=
  Exists.elim I fun S I => Exists.elim I fun K0 I => Exists.elim I fun K1 I => Exists.elim I fun R I => Exists.elim I fun cu I => Exists.elim I fun g I => Exists.elim I fun n I => Exists.elim I fun N I =>
  Exists.elim I fun M I => Exists.elim I fun an I => Exists.elim I fun fl I => Exists.elim I fun lv I => Exists.elim I fun rm I => Exists.elim I fun rf I => Exists.elim I fun rt I => Exists.elim I fun ro I =>
  Exists.elim I fun E I => Exists.elim I fun D I => Exists.elim I fun C I => Exists.elim I fun rl I => Exists.elim I fun ds I =>
  I.1.symm ▸ I.2.1.symm ▸ h S K0 K1 R cu g n N M an fl lv rm rf rt ro E D C rl ds I.2.2
section
variable {S K0 K1 R cu g n N M an fl lv : Nat} {rm rf rt ro E D C rl ds : Nat → Nat}
theorem ir_mk (h : ir_F R S K0 K1 n g rm rf rt ro cu N M an fl lv E D C rl ds) : ir_R (nI S, nI K0, nI K1, nI R, 9, nI cu, nI g, nI n, nI N, nI M, nI an, nI fl, nI lv, nA rm, nA rf, nA rt, nA ro, nA E, nA D, nA C) (nI S, nI K0, nI K1, nI R, nI n, nI g, nI cu, nI an, nA rl, nA ds) :=
  ⟨S, K0, K1, R, cu, g, n, N, M, an, fl, lv, rm, rf, rt, ro, E, D, C, rl, ds, rfl, rfl, h⟩
theorem ir_cur {c : Nat} (h : ir_F R S K0 K1 n g rm rf rt ro cu N M an fl lv E D C rl ds) (hV : cd_V S K0 K1 c) : ir_F R S K0 K1 n g rm rf rt ro c N M an fl lv E D C rl ds := ⟨h.1, h.2.1, hV, h.2.2.2⟩
end
theorem ir_clamp (p : Int32) {hi : Nat} (h1 : 1 ≤ hi) (h31 : hi < 2 ^ 31) : ∃ a, 1 ≤ a ∧ a ≤ hi ∧ (∀ (post : Int32 → Prop) (u : SX), post (nI a) → wpX_clamp post u p 1 (nI hi)) ∧ (∀ (post : Int32 → Prop) (v : SY), post (nI a) → wpY_clamp post v p (nI hi)) := by
  by_cases z : (1 : Int32) ≤ p
  · by_cases y : p ≤ nI hi
    · obtain ⟨a, ha, rfl⟩ := nI_of (x := p) (fun w => by
        rw [ba_lt0] at w
        rw [Int32.le_iff_toInt_le, show (1 : Int32).toInt = 1 from by decide] at z
        omega)
      have a1 : 1 ≤ a := (nI_leI (a := 1) (by omega) ha).mp z
      have a2 : a ≤ hi := (nI_leI ha h31).mp y
      refine ⟨a, a1, a2, fun post u hp => ?_, fun post v hp => ?_⟩
      · obtain ⟨z1, z2, z3, z4, z5, z6, z7, z8, z9, z10, z11, z12, z13, z14, z15, z16, z17, z18, z19, z20⟩ := u
        exact br_t z (br_t y hp)
      · obtain ⟨z1, z2, z3, z4, z5, z6, z7, z8, z9, z10⟩ := v
        exact br_t z (br_t y hp)
    · refine ⟨hi, h1, Nat.le_refl _, fun post u hp => ?_, fun post v hp => ?_⟩
      · obtain ⟨z1, z2, z3, z4, z5, z6, z7, z8, z9, z10, z11, z12, z13, z14, z15, z16, z17, z18, z19, z20⟩ := u
        exact br_t z (br_f y hp)
      · obtain ⟨z1, z2, z3, z4, z5, z6, z7, z8, z9, z10⟩ := v
        exact br_t z (br_f y hp)
  · refine ⟨1, by omega, h1, fun post u hp => ?_, fun post v hp => ?_⟩
    · obtain ⟨z1, z2, z3, z4, z5, z6, z7, z8, z9, z10, z11, z12, z13, z14, z15, z16, z17, z18, z19, z20⟩ := u
      exact br_f z hp
    · obtain ⟨z1, z2, z3, z4, z5, z6, z7, z8, z9, z10⟩ := v
      exact br_f z hp
theorem ir_init (k0 k1 k2 k3 : Int32) : wpX_init (fun u => wpY_init (fun v => ir_R u v) k0 k1 k2 k3) k0 k1 k2 k3 := by
  obtain ⟨S, s1, s2, sX, sY⟩ := ir_clamp k0 (hi := 3) (by omega) (by omega)
  obtain ⟨K0, c1, c2, cX, cY⟩ := ir_clamp k1 (hi := 3) (by omega) (by omega)
  obtain ⟨K1, e1, e2, eX, eY⟩ := ir_clamp k2 (hi := 2) (by omega) (by omega)
  obtain ⟨R, r1, r2, rX, rY⟩ := ir_clamp k3 (hi := 32) (by omega) (by omega)
  have hp : cd_Pm S K0 K1 R := ⟨s1, s2, c1, c2, e1, e2, r1, r2⟩
  refine sX _ _ (cX _ _ (eX _ _ (rX _ _ (sY _ _ (cY _ _ (eY _ _ (rY _ _ ?_)))))))
  exact ir_mk (S := S) (K0 := K0) (K1 := K1) (R := R) (cu := 9) (g := 9) (n := 0) (N := 0) (M := 0) (an := 0) (fl := 0) (lv := 0) (rm := fun _ => 0) (rf := fun _ => 0) (rt := fun _ => 0) (ro := fun _ => 0) (E := fun _ => 0) (D := fun _ => 0) (C := fun _ => 0) (rl := fun _ => 0) (ds := fun _ => 0)
    ⟨⟨hp, by omega, fun j hj => by omega, yw_V9 hp⟩, fun r hr => by omega, yw_V9 hp, Or.inl rfl⟩
theorem ba_gt {p : Int32} {b : Nat} (hb : b < 2 ^ 31) : nI b < p ↔ (b : Int) < p.toInt := by rw [Int32.lt_iff_toInt_lt, nI_toInt hb]
theorem ba_le {p : Int32} {b : Nat} (hb : b < 2 ^ 31) : p ≤ nI b ↔ p.toInt ≤ (b : Int) := by rw [Int32.le_iff_toInt_le, nI_toInt hb]
theorem ba_lt {p : Int32} {b : Nat} (hb : b < 2 ^ 31) : p < nI b ↔ p.toInt < (b : Int) := by rw [Int32.lt_iff_toInt_lt, nI_toInt hb]
theorem ba_gt1 {p : Int32} : 1 < p ↔ 1 < p.toInt := ba_gt (b := 1) (by omega)
theorem ba_le1 {p : Int32} : p ≤ 1 ↔ p.toInt ≤ 1 := ba_le (b := 1) (by omega)
theorem ba_le8 {p : Int32} : p ≤ 8 ↔ p.toInt ≤ 8 := ba_le (b := 8) (by omega)
theorem ba_ge0 {p : Int32} : 0 ≤ p ↔ 0 ≤ p.toInt := ba_ge (S := 0) (by omega)
def ir_ok (S : Nat) (v1 v2 v3 v4 : Int32) : Prop := (0 ≤ v1.toInt ∧ v1.toInt ≤ 1) ∧ (0 ≤ v2.toInt ∧ v2.toInt < S) ∧ (0 ≤ v3.toInt ∧ v3.toInt < S) ∧ (0 ≤ v4.toInt ∧ v4.toInt ≤ 8)
theorem ir_okx {S : Nat} {v1 v2 v3 v4 : Int32} (h : ir_ok S v1 v2 v3 v4) : ∃ a b c d : Nat, v1 = nI a ∧ v2 = nI b ∧ v3 = nI c ∧ v4 = nI d ∧ ru_ok S a b c d := by
  obtain ⟨⟨h1, h2⟩, ⟨h3, h4⟩, ⟨h5, h6⟩, h7, h8⟩ := h
  obtain ⟨a, ea, ia⟩ := ba_of h1
  obtain ⟨b, eb, ib⟩ := ba_of h3
  obtain ⟨c, ec, ic⟩ := ba_of h5
  obtain ⟨d, ed, jd⟩ := ba_of h7
  exact ⟨a, b, c, d, ea, eb, ec, ed, by omega, by omega, by omega, by omega⟩
section
variable {post : Int32 → Prop} {S K0 K1 R cu g n N M an fl lv : Nat} {rm rf rt ro E D C : Nat → Nat}
theorem xw_isState {p : Int32} (hS : S < 2 ^ 31) (h1 : 0 ≤ p.toInt → p.toInt < S → post 1) (h0 : ¬ (0 ≤ p.toInt ∧ p.toInt < S) → post 0) : wpX_isState post (nI S, nI K0, nI K1, nI R, 9, nI cu, nI g, nI n, nI N, nI M, nI an, nI fl, nI lv, nA rm, nA rf, nA rt, nA ro, nA E, nA D, nA C) p := by
  unfold wpX_isState
  dsimp only
  rw [ba_lt0, ba_ge hS]
  exact br_c (fun z => h0 (fun y => by omega)) (fun z => br_c (fun y => h0 (fun x => by omega)) (fun y => h1 (by omega) (by omega)))
theorem xw_isRule {p : Int32} (hn : n < 2 ^ 31) (h1 : 0 ≤ p.toInt → p.toInt < n → post 1) (h0 : ¬ (0 ≤ p.toInt ∧ p.toInt < n) → post 0) : wpX_isRule post (nI S, nI K0, nI K1, nI R, 9, nI cu, nI g, nI n, nI N, nI M, nI an, nI fl, nI lv, nA rm, nA rf, nA rt, nA ro, nA E, nA D, nA C) p := by
  unfold wpX_isRule
  dsimp only
  rw [ba_lt0, ba_ge hn]
  exact br_c (fun z => h0 (fun y => by omega)) (fun z => br_c (fun y => h0 (fun x => by omega)) (fun y => h1 (by omega) (by omega)))
theorem xw_isConf {p0 p1 p2 p3 : Int32} (hp : cd_Pm S K0 K1 R) (h1 : yw_cf S (2 ^ (K0 + 1)) (2 ^ (K1 + 1)) p0 p1 p2 p3 → post 1) (h0 : ¬ yw_cf S (2 ^ (K0 + 1)) (2 ^ (K1 + 1)) p0 p1 p2 p3 → post 0) : wpX_isConfiguration post (nI S, nI K0, nI K1, nI R, 9, nI cu, nI g, nI n, nI N, nI M, nI an, nI fl, nI lv, nA rm, nA rf, nA rt, nA ro, nA E, nA D, nA C) p0 p1 p2 p3 := by
  obtain ⟨-, g1, -, g2, -, g3, -⟩ := hp
  have q1 := wk_pw K0 (by omega)
  have q2 := wk_pw2 K1 (by omega)
  have e1 : (2 : Int32) <<< (nI K0 &&& 31) = nI (2 ^ (K0 + 1)) := ba_2K K0 (by omega)
  have e2 : (2 : Int32) <<< (nI K1 &&& 31) = nI (2 ^ (K1 + 1)) := ba_2K K1 (by omega)
  unfold wpX_isConfiguration
  dsimp only
  refine xw_isState (by omega) (fun a1 a2 => br_f ba_10 ?_) (fun z => br_t rfl (h0 (fun y => z y.1)))
  refine xw_isState (by omega) (fun b1 b2 => br_f ba_10 ?_) (fun z => br_t rfl (h0 (fun y => z y.2.1)))
  rw [e1, e2, ba_lt1, ba_lt1, ba_ge (by omega), ba_ge (by omega)]
  refine br_c (fun z => h0 (fun y => by have := y.2.2.1; omega)) (fun z5 => br_c (fun z => h0 (fun y => by have := y.2.2.1; omega)) (fun z6 => ?_))
  refine br_c (fun z => h0 (fun y => by have := y.2.2.2; omega)) (fun z7 => br_c (fun z => h0 (fun y => by have := y.2.2.2; omega)) (fun z8 => ?_))
  exact h1 ⟨⟨a1, a2⟩, ⟨b1, b2⟩, ⟨by omega, by omega⟩, by omega, by omega⟩
end
section
variable {post : Int32 → SX → Prop} {S K0 K1 R cu g n N M an fl lv : Nat} {rm rf rt ro E D C : Nat → Nat}
theorem xw_addRule {v1 v2 v3 v4 : Int32} (hS : S < 2 ^ 31) (hn : n ≤ 12) (h0 : ¬ ir_ok S v1 v2 v3 v4 → post (-1) (nI S, nI K0, nI K1, nI R, 9, nI cu, nI g, nI n, nI N, nI M, nI an, nI fl, nI lv, nA rm, nA rf, nA rt, nA ro, nA E, nA D, nA C)) (h5 : ir_ok S v1 v2 v3 v4 → 12 ≤ n → post (-5) (nI S, nI K0, nI K1, nI R, 9, nI cu, nI g, nI n, nI N, nI M, nI an, nI fl, nI lv, nA rm, nA rf, nA rt, nA ro, nA E, nA D, nA C))
    (h1 : ∀ a b c d, v1 = nI a → v2 = nI b → v3 = nI c → v4 = nI d → ir_ok S v1 v2 v3 v4 → ru_ok S a b c d → n < 12 → post (nI n) (nI S, nI K0, nI K1, nI R, 9, nI cu, nI g, nI (n+1), nI N, nI M, nI 0, nI fl, nI lv, nA (ba_up rm n a), nA (ba_up rf n b), nA (ba_up rt n c), nA (ba_up ro n d), nA E, nA D, nA C)) : wpX_addRule post (nI S, nI K0, nI K1, nI R, 9, nI cu, nI g, nI n, nI N, nI M, nI an, nI fl, nI lv, nA rm, nA rf, nA rt, nA ro, nA E, nA D, nA C) v1 v2 v3 v4 := by
  have ue : ∀ (f : Nat → Nat) (v : Nat), upd (nA f) (nI n).toNatClampNeg (nI v) = nA (ba_up f n v) := by
    intro f v
    rw [nI_clamp (by omega)]
    exact ba_upd f n v
  unfold wpX_addRule
  dsimp only
  rw [ba_lt0, ba_gt1]
  refine br_c (fun z => h0 (fun y => by have := y.1; omega)) (fun z1 => br_c (fun z => h0 (fun y => by have := y.1; omega)) (fun z2 => ?_))
  refine xw_isState hS (fun a1 a2 => br_f ba_10 ?_) (fun z => br_t rfl (h0 (fun y => z y.2.1)))
  refine xw_isState hS (fun b1 b2 => br_f ba_10 ?_) (fun z => br_t rfl (h0 (fun y => z y.2.2.1)))
  rw [ba_lt0, ba_le8]
  refine br_c (fun z => h0 (fun y => by have := y.2.2.2; omega)) (fun z3 => br_c (fun z4 => ?_) (fun z => h0 (fun y => by have := y.2.2.2; omega)))
  have ok : ir_ok S v1 v2 v3 v4 := ⟨⟨by omega, by omega⟩, ⟨a1, a2⟩, ⟨b1, b2⟩, by omega, by omega⟩
  obtain ⟨a, b, c, d, ea, eb, ec, ed, ro'⟩ := ir_okx ok
  refine pk_lt n 12 (fun z => ?_) (fun z => h5 ok z)
  have i12 : vp_in (nI n) 12 := vp_in_nI z (by omega)
  have H := h1 a b c d ea eb ec ed ok ro' z
  refine ⟨i12, nm_r (e' := nA (ba_up rm n a)) (by rw [ea]; exact ue rm a) ⟨i12, nm_r (e' := nA (ba_up rf n b)) (by rw [eb]; exact ue rf b) ⟨i12, nm_r (e' := nA (ba_up rt n c)) (by rw [ec]; exact ue rt c) ⟨i12, nm_r (e' := nA (ba_up ro n d)) (by rw [ed]; exact ue ro d) (nm_r (nI_1 n) H)⟩⟩⟩⟩
end
section
variable {post : Int32 → SY → Prop} {S K0 K1 R n g cu an : Nat} {rl ds : Nat → Nat}
theorem yw_addRule {v1 v2 v3 v4 : Int32} (hS : S < 2 ^ 31) (hn : n ≤ 12) (h0 : ¬ ir_ok S v1 v2 v3 v4 → post (-1) (nI S, nI K0, nI K1, nI R, nI n, nI g, nI cu, nI an, nA rl, nA ds)) (h5 : ir_ok S v1 v2 v3 v4 → 12 ≤ n → post (-5) (nI S, nI K0, nI K1, nI R, nI n, nI g, nI cu, nI an, nA rl, nA ds))
    (h1 : ∀ a b c d, v1 = nI a → v2 = nI b → v3 = nI c → v4 = nI d → ir_ok S v1 v2 v3 v4 → ru_ok S a b c d → n < 12 → post (nI n) (nI S, nI K0, nI K1, nI R, nI (n+1), nI g, nI cu, nI 0, nA (ba_up rl n (((a * 4 + b) * 4 + c) * 16 + d)), nA ds)) : wpY_addRule post (nI S, nI K0, nI K1, nI R, nI n, nI g, nI cu, nI an, nA rl, nA ds) v1 v2 v3 v4 := by
  have ue : ∀ (f : Nat → Nat) (v : Nat), upd (nA f) (nI n).toNatClampNeg (nI v) = nA (ba_up f n v) := by
    intro f v
    rw [nI_clamp (by omega)]
    exact ba_upd f n v
  unfold wpY_addRule
  dsimp only
  rw [ba_lt0, ba_gt1, ba_lt0, ba_lt hS, ba_lt0, ba_ge hS, ba_lt0, ba_le8]
  refine br_c (fun z => h0 (fun y => by have := y.1; omega)) (fun z1 => br_c (fun z => h0 (fun y => by have := y.1; omega)) (fun z2 => ?_))
  refine br_c (fun z => h0 (fun y => by have := y.2.1; omega)) (fun z3 => br_c (fun z4 => ?_) (fun z => h0 (fun y => by have := y.2.1; omega)))
  refine br_c (fun z => h0 (fun y => by have := y.2.2.1; omega)) (fun z5 => br_c (fun z => h0 (fun y => by have := y.2.2.1; omega)) (fun z6 => ?_))
  refine br_c (fun z => h0 (fun y => by have := y.2.2.2; omega)) (fun z7 => br_c (fun z8 => ?_) (fun z => h0 (fun y => by have := y.2.2.2; omega)))
  have ok : ir_ok S v1 v2 v3 v4 := ⟨⟨by omega, by omega⟩, ⟨by omega, by omega⟩, ⟨by omega, by omega⟩, by omega, by omega⟩
  obtain ⟨a, b, c, d, ea, eb, ec, ed, ro'⟩ := ir_okx ok
  refine pk_lt n 12 (fun z => ?_) (fun z => h5 ok z)
  have i12 : vp_in (nI n) 12 := vp_in_nI z (by omega)
  have H := h1 a b c d ea eb ec ed ok ro' z
  have ev : ((((((v1 * 4) + v2) * 4) + v3) * 16) + v4) = nI (((a * 4 + b) * 4 + c) * 16 + d) := by
    rw [ea, eb, ec, ed]
    show ((((((nI a * nI 4) + nI b) * nI 4) + nI c) * nI 16) + nI d) = _
    rw [pk_mul, nI_add, pk_mul, nI_add, pk_mul, nI_add]
  refine ⟨i12, nm_r (e' := nA (ba_up rl n (((a * 4 + b) * 4 + c) * 16 + d))) (by rw [ev]; exact ue rl _) (nm_r (nI_1 n) ?_)⟩
  rw [nI_pred n]
  exact H
end
end
section
/-! the advised move -/
def ad_hit (S K0 K1 n g : Nat) (rm rf rt ro : Nat → Nat) (cu k0 : Nat) (ds : Nat → Nat) (mv : Nat) : Prop := ∃ x k, bf_E S K0 K1 n g rm rf rt ro cu mv x k ∧ ds x + k = k0
def ad_out (S K0 K1 n g : Nat) (rm rf rt ro : Nat → Nat) (cu k0 : Nat) (ds : Nat → Nat) (r : Int32) : Prop :=
  (∃ mv, mv < 24 ∧ ad_hit S K0 K1 n g rm rf rt ro cu k0 ds mv ∧ (∀ m, m < mv → ¬ ad_hit S K0 K1 n g rm rf rt ro cu k0 ds m) ∧ r = nI mv) ∨ ((∀ m, m < 24 → ¬ ad_hit S K0 K1 n g rm rf rt ro cu k0 ds m) ∧ r = -3)
def ad_a (R S K0 K1 n g : Nat) (rm rf rt ro : Nat → Nat) (cu : Nat) (ds : Nat → Nat) (r : Int32) : Prop :=
  (¬ rc_R S K0 K1 n g rm rf rt ro R cu ∧ r = -3) ∨ (rc_R S K0 K1 n g rm rf rt ro R cu ∧ ds cu = 0 ∧ r = -4) ∨ (rc_R S K0 K1 n g rm rf rt ro R cu ∧ ds cu ≠ 0 ∧ ad_out S K0 K1 n g rm rf rt ro cu (ds cu) ds r)
section
variable {R S K0 K1 n g cu k0 : Nat} {rm rf rt ro ds : Nat → Nat}
theorem ad_ou {r r' : Int32} (h : ad_out S K0 K1 n g rm rf rt ro cu k0 ds r) (h' : ad_out S K0 K1 n g rm rf rt ro cu k0 ds r') : r' = r := by
  rcases h with ⟨m, h1, h2, h3, rfl⟩ | ⟨h1, rfl⟩ <;> rcases h' with ⟨m', g1, g2, g3, rfl⟩ | ⟨g1, rfl⟩
  · rcases Nat.lt_trichotomy m m' with z | z | z
    · exact absurd h2 (g3 m z)
    · rw [z]
    · exact absurd g2 (h3 m' z)
  · exact absurd h2 (g1 m h1)
  · exact absurd g2 (h1 m' g1)
  · rfl
theorem ad_u {r r' : Int32} (h : ad_a R S K0 K1 n g rm rf rt ro cu ds r) (h' : ad_a R S K0 K1 n g rm rf rt ro cu ds r') : r' = r := by
  rcases h with ⟨h1, rfl⟩ | ⟨h1, h2, rfl⟩ | ⟨h1, h2, h3⟩ <;> rcases h' with ⟨g1, rfl⟩ | ⟨g1, g2, rfl⟩ | ⟨g1, g2, g3⟩
  · rfl
  · exact absurd g1 h1
  · exact absurd g1 h1
  · exact absurd h1 g1
  · rfl
  · exact absurd h2 g2
  · exact absurd h1 g1
  · exact absurd g2 h2
  · exact ad_ou h3 g3
theorem ad_ds {x k : Nat} (hs : rc_S R S K0 K1 n g rm rf rt ro) (hok : bf_OK S K0 K1 n g rm rf rt ro ds) (hV : cd_V S K0 K1 x) (hk : k < 1000000) (h1 : rc_R S K0 K1 n g rm rf rt ro k x) (h2 : ∀ j, rc_R S K0 K1 n g rm rf rt ro j x → k ≤ j) : ds x = k := by
  have hx := (cd_lt hs.1 hV).1
  have a := (bf_iff hs hok hV hk).mpr h1
  have b := h2 _ ((hok.1 x hx).2.2.1 hV (by omega))
  omega
theorem ad_nd {x w : Nat} (hs : rc_S R S K0 K1 n g rm rf rt ro) (hok : bf_OK S K0 K1 n g rm rf rt ro ds) (hV : cd_V S K0 K1 x) (hw : w ≤ R) (h : ¬ rc_R S K0 K1 n g rm rf rt ro R x) : ds x ≠ w := by
  have hR : R ≤ 32 := hs.1.2.2.2.2.2.2.2
  intro e
  exact h ((bf_iff (k := R) hs hok hV (by omega)).mp (by omega))
theorem ad_hx {mv x k : Nat} (hn : n ≤ 12) (hE : bf_E S K0 K1 n g rm rf rt ro cu mv x k) : ad_hit S K0 K1 n g rm rf rt ro cu k0 ds mv ↔ ds x + k = k0 := by
  constructor
  · rintro ⟨x', k', h1, h2⟩
    obtain ⟨rfl, rfl⟩ := ya_Ed hn hE h1
    exact h2
  · intro h
    exact ⟨x, k, hE, h⟩
theorem ad_step {mv : Nat} (h : ∀ m, m < mv → ¬ ad_hit S K0 K1 n g rm rf rt ro cu k0 ds m) (h' : ¬ ad_hit S K0 K1 n g rm rf rt ro cu k0 ds mv) : ∀ m, m < mv + 1 → ¬ ad_hit S K0 K1 n g rm rf rt ro cu k0 ds m := by
  intro m hm
  rcases Nat.lt_or_ge m mv with y | y
  · exact h m y
  · have e : m = mv := by omega
    rw [e]; exact h'
end
section
variable {post : Int32 → Prop} {S K0 K1 R n g cu an k0 : Nat} {rl ds rm rf rt ro : Nat → Nat}
theorem yw_adv42 (hs : rc_S R S K0 K1 n g rm rf rt ro) (hrl : yw_rl n rm rf rt ro rl) (hV : cd_V S K0 K1 cu) (hok : bf_OK S K0 K1 n g rm rf rt ro ds) (hk : 1 ≤ k0) (hk' : k0 ≤ 32) (h : ∀ r, ad_out S K0 K1 n g rm rf rt ro cu k0 ds r → post r) :
    ∀ d mv, mv + d = 24 → (∀ m, m < mv → ¬ ad_hit S K0 K1 n g rm rf rt ro cu k0 ds m) → wY_advise_42 post (nI k0) (nI S) (nI K0) (nI K1) (nI R) (nI n) (nI g) (nI cu) (nI an) (nA rl) (nA ds) (d + 1) (nI mv) := by
  have hn := hs.2.1
  intro d
  induction d with
  | zero =>
    intro mv hm hk
    exact br_t (nI_le (a := 24) (by omega) (by omega)) (h _ (Or.inr ⟨fun m hm' => hk m (by omega), rfl⟩))
  | succ d ih =>
    intro mv hm hk
    refine br_f (nI_ge (b := 24) (by omega) (by omega)) ?_
    have hit : ad_hit S K0 K1 n g rm rf rt ro cu k0 ds mv → post (nI mv) := fun z => h _ (Or.inl ⟨mv, by omega, z, hk, rfl⟩)
    have miss : ¬ ad_hit S K0 K1 n g rm rf rt ro cu k0 ds mv → wY_advise_42 post (nI k0) (nI S) (nI K0) (nI K1) (nI R) (nI n) (nI g) (nI cu) (nI an) (nA rl) (nA ds) (d + 1) (nI (mv + 1)) := fun z => ih (mv + 1) (by omega) (ad_step hk z)
    have e1 : nI k0 - 1 = nI (k0 - 1) := pk_sub (b := 1) (by omega)
    refine yw_after hs hrl hV (by omega) (fun x k hE => ?_) (fun z => ?_)
    · have hx := (cd_lt hs.1 (bf_EV hs hV hE)).1
      have hdx := (hok.1 x hx).1
      have hh := ad_hx (k0 := k0) (ds := ds) hn hE
      refine yw_knownN hx ?_
      rcases ya_Ek hn hE with ⟨w, rfl⟩ | ⟨w, rfl⟩
      · refine br_f (nI_ge (b := 16) (by omega) (by omega)) ?_
        unfold wY_advise_76
        exact pk_eq (ds x) (k0 - 1) (fun y => hit (hh.mpr (by omega))) (fun y => nm_r (nI_1 mv) (miss (fun q => by have := hh.mp q; omega))) rfl e1
      · refine br_t (nI_le (a := 16) (by omega) (by omega)) ?_
        unfold wY_advise_76
        exact pk_eq (ds x) k0 (fun y => hit (hh.mpr (by omega))) (fun y => nm_r (nI_1 mv) (miss (fun q => by have := hh.mp q; omega)))
    · have nh : ¬ ad_hit S K0 K1 n g rm rf rt ro cu k0 ds mv := fun ⟨x, k, q, _⟩ => z x k q
      refine yw_knownM ?_
      refine pk_le 16 mv (fun w => ?_) (fun w => ?_)
      · unfold wY_advise_76
        exact br_f (fun y => by have := (nI_eq (a := 1000000) (b := k0) (by omega) (by omega)).mp y; omega) (nm_r (nI_1 mv) (miss nh))
      · unfold wY_advise_76
        rw [e1]
        exact br_f (fun y => by have := (nI_eq (a := 1000000) (b := k0 - 1) (by omega) (by omega)).mp y; omega) (nm_r (nI_1 mv) (miss nh))
theorem yw_advise (hs : rc_S R S K0 K1 n g rm rf rt ro) (hrl : yw_rl n rm rf rt ro rl) (hV : cd_V S K0 K1 cu) (hok : bf_OK S K0 K1 n g rm rf rt ro ds) (h : ∀ r, ad_a R S K0 K1 n g rm rf rt ro cu ds r → post r) : wpY_advise post (nI S, nI K0, nI K1, nI R, nI n, nI g, nI cu, nI 1, nA rl, nA ds) := by
  have hR : R ≤ 32 := hs.1.2.2.2.2.2.2.2
  have hc := (cd_lt hs.1 hV).1
  refine br_f ba_10 ?_
  refine yw_memV hs hok hV (fun z => br_f ba_10 ?_) (fun z => br_t rfl (h _ (Or.inl ⟨z, rfl⟩)))
  have hd := (bf_iff (k := R) hs hok hV (by omega)).mpr z
  refine yw_knownN hc ?_
  refine pk_eq (ds cu) 0 (fun y => h _ (Or.inr (Or.inl ⟨z, y, rfl⟩))) (fun y => ⟨25, ?_⟩)
  exact yw_adv42 hs hrl hV hok (by omega) (by omega) (fun r hr => h _ (Or.inr (Or.inr ⟨z, y, hr⟩))) 24 0 rfl (fun m hm => by omega)
end
section
variable {post : Int32 → Prop} {k0 : Nat} {S K0 K1 R cu g n N M an fl lv : Nat} {rm rf rt ro E D C rl ds : Nat → Nat}
theorem xw_fir2 (hs : rc_S R S K0 K1 n g rm rf rt ro) (hok : xs_OK R S K0 K1 n g rm rf rt ro N fl E D) (hbf : bf_OK S K0 K1 n g rm rf rt ro ds) (hV : cd_V S K0 K1 cu) (hk : 1 ≤ k0) (hk' : k0 ≤ R)
    (h1 : ∀ r, r < n → ad_hit S K0 K1 n g rm rf rt ro cu k0 ds r → (∀ m, m < r → ¬ ad_hit S K0 K1 n g rm rf rt ro cu k0 ds m) → post (nI r)) (h0 : (∀ m, m < n → ¬ ad_hit S K0 K1 n g rm rf rt ro cu k0 ds m) → post (-3)) :
    ∀ d r, r + d = n → (∀ m, m < r → ¬ ad_hit S K0 K1 n g rm rf rt ro cu k0 ds m) → wX_firingTo_2 post (nI (k0 - 1)) (nI S) (nI K0) (nI K1) (nI R) 9 (nI cu) (nI g) (nI n) (nI N) (nI M) (nI an) (nI fl) (nI lv) (nA rm) (nA rf) (nA rt) (nA ro) (nA E) (nA D) (nA C) (d + 1) (nI r) := by
  have hn := hs.2.1
  have hR : R ≤ 32 := hs.1.2.2.2.2.2.2.2
  intro d
  induction d with
  | zero =>
    intro r hr hk
    exact br_t (nI_le (by omega) (by omega)) (h0 (fun m hm => hk m (by omega)))
  | succ d ih =>
    intro r hr hk
    have hrn : r < n := by omega
    have hru := hs.2.2.1 r hrn
    have miss : ¬ ad_hit S K0 K1 n g rm rf rt ro cu k0 ds r → wX_firingTo_2 post (nI (k0 - 1)) (nI S) (nI K0) (nI K1) (nI R) 9 (nI cu) (nI g) (nI n) (nI N) (nI M) (nI an) (nI fl) (nI lv) (nA rm) (nA rf) (nA rt) (nA ro) (nA E) (nA D) (nA C) (d + 1) (nI (r + 1)) := fun z => ih (r + 1) (by omega) (ad_step hk z)
    refine br_f (nI_ge (by omega) (by omega)) ?_
    refine xw_isEnabled hs.1 hV (by omega) hru (fun en => br_f ba_10 ?_) (fun en => br_t rfl (nm_r (nI_1 r) (miss ?_)))
    · have hE : bf_E S K0 K1 n g rm rf rt ro cu r (ru_fr K0 K1 (rm r) (rt r) (ro r) cu) 1 := Or.inl ⟨hrn, en, rfl, rfl⟩
      have hh := ad_hx (k0 := k0) (ds := ds) hn hE
      have hx := bf_EV hs hV hE
      refine xw_fired hs.1 hV (by omega) hru en ?_
      refine xw_distV hs hok hx (fun k kR k1 k2 => ?_) (fun z => br_f (fun y => ba_m3 (n := k0 - 1) (by omega) y.symm) (nm_r (nI_1 r) (miss (fun q => ?_))))
      · have e := ad_ds hs hbf hx (by omega) k1 k2
        exact pk_eq k (k0 - 1) (fun y => h1 r hrn (hh.mpr (by omega)) hk) (fun y => nm_r (nI_1 r) (miss (fun q => by have := hh.mp q; omega)))
      · have := hh.mp q
        exact ad_nd (w := k0 - 1) hs hbf hx (by omega) z (by omega)
    · rintro ⟨x, k, (⟨-, q, -⟩ | ⟨q, -⟩), -⟩
      · exact en q
      · omega
theorem xw_los27 {q : Nat} {J : Int32 → Prop} (hs : rc_S R S K0 K1 n g rm rf rt ro) (hok : xs_OK R S K0 K1 n g rm rf rt ro N fl E D) (hbf : bf_OK S K0 K1 n g rm rf rt ro ds) (hV : cd_V S K0 K1 cu) (hq : q < 2) (hk' : k0 ≤ R)
    (h : ∀ r, ad_out S K0 K1 n g rm rf rt ro cu k0 ds r → post r) (hJ : (∀ m, m < 16 + 4 * (q + 1) → ¬ ad_hit S K0 K1 n g rm rf rt ro cu k0 ds m) → J (nI (q + 1))) :
    ∀ d i, i + d = wk_len (cd_wd cu q) → (∀ m, m < 16 + 4 * q + i → ¬ ad_hit S K0 K1 n g rm rf rt ro cu k0 ds m) → wX_lossTo_27 post J (nI k0) (nI q) (nI (wk_len (cd_wd cu q))) (nI S) (nI K0) (nI K1) (nI R) 9 (nI cu) (nI g) (nI n) (nI N) (nI M) (nI an) (nI fl) (nI lv) (nA rm) (nA rf) (nA rt) (nA ro) (nA E) (nA D) (nA C) (d + 1) (nI i) := by
  have hn := hs.2.1
  have hR : R ≤ 32 := hs.1.2.2.2.2.2.2.2
  have hc := (cd_lt hs.1 hV).1
  have l3 := wk_len3 _ (cd_w16 (c := cu) hq)
  intro d
  induction d with
  | zero =>
    intro i hi hk
    refine br_t (nI_le (by omega) (by omega)) (nm_r (nI_1 q) (hJ (fun m hm => ?_)))
    rcases Nat.lt_or_ge m (16 + 4 * q + i) with y | y
    · exact hk m y
    · rintro ⟨x, k, (⟨w, -⟩ | ⟨-, -, w, -⟩), -⟩
      · omega
      · have e1 : (m - 16) / 4 = q := by omega
        rw [e1] at w
        omega
  | succ d ih =>
    intro i hi hk
    have hil : i < wk_len (cd_wd cu q) := by omega
    have e1 : (16 + 4 * q + i - 16) / 4 = q := by omega
    have e2 : (16 + 4 * q + i - 16) % 4 = i := by omega
    have hE : bf_E S K0 K1 n g rm rf rt ro cu (16 + 4 * q + i) (cd_ls cu q i) 0 := Or.inr ⟨by omega, by omega, by rw [e1, e2]; exact hil, by rw [e1, e2], rfl⟩
    have hh := ad_hx (k0 := k0) (ds := ds) hn hE
    have hx := bf_EV hs hV hE
    have miss : ¬ ad_hit S K0 K1 n g rm rf rt ro cu k0 ds (16 + 4 * q + i) → wX_lossTo_27 post J (nI k0) (nI q) (nI (wk_len (cd_wd cu q))) (nI S) (nI K0) (nI K1) (nI R) 9 (nI cu) (nI g) (nI n) (nI N) (nI M) (nI an) (nI fl) (nI lv) (nA rm) (nA rf) (nA rt) (nA ro) (nA E) (nA D) (nA C) (d + 1) (nI (i + 1)) := fun z => ih (i + 1) (by omega) (ad_step hk z)
    refine br_f (nI_ge (by omega) (by omega)) ?_
    refine xw_lost hc hq hil ?_
    refine xw_distV hs hok hx (fun k kR k1 k2 => ?_) (fun z => br_f (fun y => ba_m3 (n := k0) (by omega) y.symm) (nm_r (nI_1 i) (miss (fun w => ?_))))
    · have e := ad_ds hs hbf hx (by omega) k1 k2
      refine pk_eq k k0 (fun y => ?_) (fun y => nm_r (nI_1 i) (miss (fun w => by have := hh.mp w; omega)))
      have ev : (16 + (4 * nI q)) + nI i = nI (16 + 4 * q + i) := by
        show (nI 16 + (nI 4 * nI q)) + nI i = _
        rw [pk_mul, nI_add, nI_add]
      rw [ev]
      exact h _ (Or.inl ⟨16 + 4 * q + i, by omega, hh.mpr (by omega), hk, rfl⟩)
    · have := hh.mp w
      exact ad_nd (w := k0) hs hbf hx hk' z (by omega)
theorem xw_los2 (hs : rc_S R S K0 K1 n g rm rf rt ro) (hok : xs_OK R S K0 K1 n g rm rf rt ro N fl E D) (hbf : bf_OK S K0 K1 n g rm rf rt ro ds) (hV : cd_V S K0 K1 cu) (hk' : k0 ≤ R) (h : ∀ r, ad_out S K0 K1 n g rm rf rt ro cu k0 ds r → post r) :
    ∀ d q, q + d = 2 → (∀ m, m < 16 + 4 * q → ¬ ad_hit S K0 K1 n g rm rf rt ro cu k0 ds m) → wX_lossTo_2 post (nI k0) (nI S) (nI K0) (nI K1) (nI R) 9 (nI cu) (nI g) (nI n) (nI N) (nI M) (nI an) (nI fl) (nI lv) (nA rm) (nA rf) (nA rt) (nA ro) (nA E) (nA D) (nA C) (d + 1) (nI q) := by
  have hc := (cd_lt hs.1 hV).1
  intro d
  induction d with
  | zero =>
    intro q hq hk
    exact br_t (nI_le (a := 2) (by omega) (by omega)) (h _ (Or.inr ⟨fun m hm => hk m (by omega), rfl⟩))
  | succ d ih =>
    intro q hq hk
    have hw := cd_w16 (c := cu) (q := q) (by omega)
    refine br_f (nI_ge (b := 2) (by omega) (by omega)) ?_
    refine xw_wordOf (by omega) (by omega) (xw_length (by omega) ⟨wk_len (cd_wd cu q) + 1, ?_⟩)
    exact xw_los27 hs hok hbf hV (by omega) hk' h (fun z => ih (q + 1) (by omega) z) _ 0 (by omega) hk
theorem xw_advise (hs : rc_S R S K0 K1 n g rm rf rt ro) (hok : xs_OK R S K0 K1 n g rm rf rt ro N fl E D) (hbf : bf_OK S K0 K1 n g rm rf rt ro ds) (hV : cd_V S K0 K1 cu) (h : ∀ r, ad_a R S K0 K1 n g rm rf rt ro cu ds r → post r) : wpX_advise post (nI S, nI K0, nI K1, nI R, 9, nI cu, nI g, nI n, nI N, nI M, nI 1, nI fl, nI lv, nA rm, nA rf, nA rt, nA ro, nA E, nA D, nA C) := by
  have hn := hs.2.1
  have hR : R ≤ 32 := hs.1.2.2.2.2.2.2.2
  refine br_f ba_10 ?_
  refine xw_distV hs hok hV (fun k kR k1 k2 => br_f (ba_m3 (by omega)) ?_) (fun z => br_t rfl (h _ (Or.inl ⟨z, rfl⟩)))
  have e := ad_ds hs hbf hV (by omega) k1 k2
  have hr := rc_mono kR k1
  refine pk_eq k 0 (fun y => h _ (Or.inr (Or.inl ⟨hr, by omega, rfl⟩))) (fun y => ?_)
  have e1 : nI k - 1 = nI (k - 1) := pk_sub (b := 1) (by omega)
  rw [e1]
  have H : ∀ r, ad_out S K0 K1 n g rm rf rt ro cu k ds r → post r := fun r hr' => h _ (Or.inr (Or.inr ⟨hr, by omega, by rw [e]; exact hr'⟩))
  refine ⟨n + 1, xw_fir2 hs hok hbf hV (by omega) kR (fun r h1 h2 h3 => br_t (nI_pos' (by omega)) (H _ (Or.inl ⟨r, by omega, h2, h3, rfl⟩))) (fun z => br_f (by decide) ⟨3, ?_⟩) n 0 (by omega) (fun m hm => by omega)⟩
  refine xw_los2 hs hok hbf hV kR H 2 0 rfl (fun m hm => ?_)
  rcases Nat.lt_or_ge m n with w | w
  · exact z m w
  · rintro ⟨x, k', (⟨v, -⟩ | ⟨v, -⟩), -⟩ <;> omega
end
section
variable {post : Int32 → SX → Prop} {S K0 K1 R cu g n N M an fl lv : Nat} {rm rf rt ro E D C rl ds : Nat → Nat}
/-- what the component does with an advised move -/
theorem xw_go {r : Int32} (hs : rc_S R S K0 K1 n g rm rf rt ro) (hV : cd_V S K0 K1 cu) (ha : ad_a R S K0 K1 n g rm rf rt ro cu ds r) (hneg : r < 0 → post r (nI S, nI K0, nI K1, nI R, 9, nI cu, nI g, nI n, nI N, nI M, nI an, nI fl, nI lv, nA rm, nA rf, nA rt, nA ro, nA E, nA D, nA C))
    (hgo : ∀ mv x k, r = nI mv → mv < 24 → bf_E S K0 K1 n g rm rf rt ro cu mv x k → post r (nI S, nI K0, nI K1, nI R, 9, nI x, nI g, nI n, nI N, nI M, nI an, nI fl, nI lv, nA rm, nA rf, nA rt, nA ro, nA E, nA D, nA C)) :
    ((r < 16 → (((r < 0 → (post r (nI S, nI K0, nI K1, nI R, 9, nI cu, nI g, nI n, nI N, nI M, nI an, nI fl, nI lv, nA rm, nA rf, nA rt, nA ro, nA E, nA D, nA C))) ∧ (¬ r < 0 → (wpX_fired (fun r_24 => (post r (nI S, nI K0, nI K1, nI R, 9, r_24, nI g, nI n, nI N, nI M, nI an, nI fl, nI lv, nA rm, nA rf, nA rt, nA ro, nA E, nA D, nA C))) (nI S, nI K0, nI K1, nI R, 9, nI cu, nI g, nI n, nI N, nI M, nI an, nI fl, nI lv, nA rm, nA rf, nA rt, nA ro, nA E, nA D, nA C) (nI cu) r))))) ∧ (¬ r < 16 → (wpX_lost (fun r_45 => (post r (nI S, nI K0, nI K1, nI R, 9, r_45, nI g, nI n, nI N, nI M, nI an, nI fl, nI lv, nA rm, nA rf, nA rt, nA ro, nA E, nA D, nA C))) (nI S, nI K0, nI K1, nI R, 9, nI cu, nI g, nI n, nI N, nI M, nI an, nI fl, nI lv, nA rm, nA rf, nA rt, nA ro, nA E, nA D, nA C) (nI cu) ((r - 16) >>> ((2 : Int32) &&& 31)) ((r - 16) &&& 3)))) := by
  have hn := hs.2.1
  have hc := (cd_lt hs.1 hV).1
  have neg : r = -3 ∨ r = -4 → ((r < 16 → (((r < 0 → (post r (nI S, nI K0, nI K1, nI R, 9, nI cu, nI g, nI n, nI N, nI M, nI an, nI fl, nI lv, nA rm, nA rf, nA rt, nA ro, nA E, nA D, nA C))) ∧ (¬ r < 0 → (wpX_fired (fun r_24 => (post r (nI S, nI K0, nI K1, nI R, 9, r_24, nI g, nI n, nI N, nI M, nI an, nI fl, nI lv, nA rm, nA rf, nA rt, nA ro, nA E, nA D, nA C))) (nI S, nI K0, nI K1, nI R, 9, nI cu, nI g, nI n, nI N, nI M, nI an, nI fl, nI lv, nA rm, nA rf, nA rt, nA ro, nA E, nA D, nA C) (nI cu) r))))) ∧ (¬ r < 16 → (wpX_lost (fun r_45 => (post r (nI S, nI K0, nI K1, nI R, 9, r_45, nI g, nI n, nI N, nI M, nI an, nI fl, nI lv, nA rm, nA rf, nA rt, nA ro, nA E, nA D, nA C))) (nI S, nI K0, nI K1, nI R, 9, nI cu, nI g, nI n, nI N, nI M, nI an, nI fl, nI lv, nA rm, nA rf, nA rt, nA ro, nA E, nA D, nA C) (nI cu) ((r - 16) >>> ((2 : Int32) &&& 31)) ((r - 16) &&& 3)))) := by
    intro e
    have n0 : r < 0 := by rcases e with e | e <;> rw [e] <;> decide
    have n16 : r < 16 := by rcases e with e | e <;> rw [e] <;> decide
    exact br_t n16 (br_t n0 (hneg n0))
  rcases ha with ⟨-, e⟩ | ⟨-, -, e⟩ | ⟨-, -, ⟨mv, h1, ⟨x, k, hE, -⟩, -, e⟩ | ⟨-, e⟩⟩
  · exact neg (Or.inl e)
  · exact neg (Or.inr e)
  · have G := hgo mv x k e h1 hE
    subst e
    rcases hE with ⟨w1, w2, rfl, -⟩ | ⟨w1, w2, w3, rfl, -⟩
    · refine br_t (nI_lt (b := 16) (by omega) (by omega)) (br_f (nI_pos (by omega)) ?_)
      exact xw_fired hs.1 hV (by omega) (hs.2.2.1 mv w1) w2 G
    · refine br_f (nI_nlt (b := 16) w1 (by omega)) ?_
      have e0 : nI mv - 16 = nI (mv - 16) := pk_sub (b := 16) w1
      have e1 : nI (mv - 16) >>> ((2 : Int32) &&& 31) = nI ((mv - 16) / 4) := ba_sh (i := 2) (by omega) (by decide)
      rw [e0, e1, ba_a3 (by omega)]
      exact xw_lost hc (bf_q w2) w3 G
  · exact neg (Or.inl e)
end
end
section
/-! the remaining calls of the reference -/
section
variable {post : Int32 → Prop} {S K0 K1 R n g cu an M : Nat} {rl ds rm rf rt ro C : Nat → Nat}
theorem yw_mc14 (hs : rc_S R S K0 K1 n g rm rf rt ro) (hrl : yw_rl n rm rf rt ro rl) (hok : bf_OK S K0 K1 n g rm rf rt ro ds) (hC : mn_C M C (mn_m R S K0 K1 n g rm rf rt ro)) (hM : M ≤ 945) (h : post (nI M)) :
    ∀ d s c, c + d = 1536 → mn_s M C s c → wY_minimalCount_14 post (nI S) (nI K0) (nI K1) (nI R) (nI n) (nI g) (nI cu) (nI an) (nA rl) (nA ds) (d + 1) (nI s) (nI c) := by
  intro d
  induction d with
  | zero =>
    intro s c hc hm
    have e : s = M := by
      rcases Nat.lt_or_ge s M with z | z
      · have a := hm.2.2 s (Nat.le_refl _) z
        have b := (cd_lt hs.1 ((hC.2 (C s)).mpr ⟨s, z, rfl⟩).1).1
        omega
      · have := hm.1
        omega
    subst e
    exact br_t (nI_le (a := 1536) (by omega) (by omega)) h
  | succ d ih =>
    intro s c hc hm
    refine br_f (nI_ge (b := 1536) (by omega) (by omega)) ?_
    exact yw_minimal hs hrl hok (by omega) (fun z => br_f ba_10 (nm_r (nI_1 s) (nm_r (nI_1 c) (ih (s + 1) (c + 1) (by omega) (mn_hit hC hm z).2.2)))) (fun z => br_t rfl (nm_r (nI_1 c) (ih s (c + 1) (by omega) (mn_miss hC hm z))))
theorem yw_minCount (hs : rc_S R S K0 K1 n g rm rf rt ro) (hrl : yw_rl n rm rf rt ro rl) (hok : bf_OK S K0 K1 n g rm rf rt ro ds) (hC : mn_C M C (mn_m R S K0 K1 n g rm rf rt ro)) (hM : M ≤ 945) (h : post (nI M)) : wpY_minimalCount post (nI S, nI K0, nI K1, nI R, nI n, nI g, nI cu, nI 1, nA rl, nA ds) :=
  br_f ba_10 ⟨1537, yw_mc14 hs hrl hok hC hM h 1536 0 0 rfl mn_s0⟩
theorem yw_ma14 {p : Int32} (hs : rc_S R S K0 K1 n g rm rf rt ro) (hrl : yw_rl n rm rf rt ro rl) (hok : bf_OK S K0 K1 n g rm rf rt ro ds) (hC : mn_C M C (mn_m R S K0 K1 n g rm rf rt ro)) (hM : M ≤ 945)
    (h1 : ∀ j, j < M → p = nI j → post (nI (C j))) (h0 : (∀ j, j < M → p ≠ nI j) → post (-1)) :
    ∀ d s c, c + d = 1536 → mn_s M C s c → (∀ j, j < s → p ≠ nI j) → wY_minimalAt_14 post p (nI S) (nI K0) (nI K1) (nI R) (nI n) (nI g) (nI cu) (nI an) (nA rl) (nA ds) (d + 1) (nI s) (nI c) := by
  intro d
  induction d with
  | zero =>
    intro s c hc hm hk
    have e : s = M := by
      rcases Nat.lt_or_ge s M with z | z
      · have a := hm.2.2 s (Nat.le_refl _) z
        have b := (cd_lt hs.1 ((hC.2 (C s)).mpr ⟨s, z, rfl⟩).1).1
        omega
      · have := hm.1
        omega
    subst e
    exact br_t (nI_le (a := 1536) (by omega) (by omega)) (h0 hk)
  | succ d ih =>
    intro s c hc hm hk
    refine br_f (nI_ge (b := 1536) (by omega) (by omega)) ?_
    refine yw_minimal hs hrl hok (by omega) (fun z => br_f ba_10 (nm_r (nI_1 s) ?_)) (fun z => br_t rfl (nm_r (nI_1 c) (ih s (c + 1) (by omega) (mn_miss hC hm z) hk)))
    obtain ⟨y1, y2, y3⟩ := mn_hit hC hm z
    refine br_c (fun e => ?_) (fun e => nm_r (nI_1 c) (ih (s + 1) (c + 1) (by omega) y3 (fun j hj => ?_)))
    · have := h1 s y1 e.symm
      rw [y2] at this
      exact this
    · rcases Nat.lt_or_ge j s with w | w
      · exact hk j w
      · have ej : j = s := by omega
        rw [ej]
        exact fun q => e q.symm
theorem yw_minAt {p : Int32} (hs : rc_S R S K0 K1 n g rm rf rt ro) (hrl : yw_rl n rm rf rt ro rl) (hok : bf_OK S K0 K1 n g rm rf rt ro ds) (hC : mn_C M C (mn_m R S K0 K1 n g rm rf rt ro)) (hM : M ≤ 945)
    (h1 : ∀ j, j < M → p = nI j → post (nI (C j))) (h0 : (∀ j, j < M → p ≠ nI j) → post (-1)) : wpY_minimalAt post (nI S, nI K0, nI K1, nI R, nI n, nI g, nI cu, nI 1, nA rl, nA ds) p :=
  br_f ba_10 ⟨1537, yw_ma14 hs hrl hok hC hM h1 h0 1536 0 0 rfl mn_s0 (fun j hj => by omega)⟩
end
section
variable {post : Int32 → SY → Prop} {S K0 K1 R n g cu an : Nat} {rl ds rm rf rt ro : Nat → Nat}
theorem yw_fireN {r : Nat} (hs : rc_S R S K0 K1 n g rm rf rt ro) (hrl : yw_rl n rm rf rt ro rl) (hV : cd_V S K0 K1 cu) (hr : r < n)
    (h0 : ¬ ru_en (rm r) (rf r) (ro r) cu → post 0 (nI S, nI K0, nI K1, nI R, nI n, nI g, nI cu, nI an, nA rl, nA ds))
    (h1 : ru_en (rm r) (rf r) (ro r) cu → ¬ (1 ≤ ro r ∧ ro r ≤ 4 ∧ cd_cp K0 K1 (ru_q (ro r)) ≤ wk_len (cd_wd cu (ru_q (ro r)))) → post 1 (nI S, nI K0, nI K1, nI R, nI n, nI g, nI (ru_fr K0 K1 (rm r) (rt r) (ro r) cu), nI an, nA rl, nA ds))
    (h2 : ru_en (rm r) (rf r) (ro r) cu → (1 ≤ ro r ∧ ro r ≤ 4 ∧ cd_cp K0 K1 (ru_q (ro r)) ≤ wk_len (cd_wd cu (ru_q (ro r)))) → post 2 (nI S, nI K0, nI K1, nI R, nI n, nI g, nI (ru_fr K0 K1 (rm r) (rt r) (ro r) cu), nI an, nA rl, nA ds)) : wpY_fire post (nI S, nI K0, nI K1, nI R, nI n, nI g, nI cu, nI an, nA rl, nA ds) (nI r) := by
  have hn := hs.2.1
  have hp := hs.1
  have hru := hs.2.2.1 r hr
  have ho := hru.2.2.2
  have hc := (cd_lt hp hV).1
  obtain ⟨d1, d2, d3, d4, d5⟩ := yw_dec hp.2.1 hru (hrl r hr)
  have e0 : nA rl (nI r).toNatClampNeg = nI (rl r) := ba_at (by omega)
  have e6 : nA rl (nI r).toNatClampNeg - nA rl (nI r).toNatClampNeg / 16 * 16 = nI (ro r) := by rw [e0, ba_r16 (by omega), d4]
  have hq := ru_q2 (ro r)
  refine br_f (nI_pos (by omega)) (br_t (nI_lt hr (by omega)) ?_)
  refine yw_after hs hrl hV (by omega) (fun x k hE => ?_) (fun z => br_f (by decide) (h0 (fun en => z _ 1 (Or.inl ⟨hr, en, rfl, rfl⟩))))
  have hx := (cd_lt hp (bf_EV hs hV hE)).1
  obtain ⟨en, rfl⟩ : ru_en (rm r) (rf r) (ro r) cu ∧ x = ru_fr K0 K1 (rm r) (rt r) (ro r) cu := by
    rcases hE with ⟨-, w1, w2, -⟩ | ⟨w, -⟩
    · exact ⟨w1, w2⟩
    · omega
  refine br_t (nI_pos' (by omega)) ⟨vp_in_nI (by omega) (by omega), ba_n16, nm_r e6 ?_⟩
  have p1 : ¬ (1 ≤ ro r ∧ ro r ≤ 4 ∧ cd_cp K0 K1 (ru_q (ro r)) ≤ wk_len (cd_wd cu (ru_q (ro r)))) → wY_fire_72 post (nI (ru_fr K0 K1 (rm r) (rt r) (ro r) cu)) (nI S) (nI K0) (nI K1) (nI R) (nI n) (nI g) (nI cu) (nI an) (nA rl) (nA ds) := by
    intro w
    unfold wY_fire_72 wY_fire_73
    exact br_t rfl (h1 en w)
  refine pk_lt (ro r) 1 (fun z => p1 (fun w => by omega)) (fun z => ?_)
  refine pk_lt 4 (ro r) (fun y => p1 (fun w => by omega)) (fun y => ⟨ba_n2, ba_n2, ?_⟩)
  rw [ba_yq _ (by omega) z]
  refine yw_full hp (by omega) hq (fun w => br_f ba_10 ?_) (fun w => br_t rfl (p1 (fun v => w v.2.2)))
  unfold wY_fire_73
  exact br_f ba_10 (h2 en ⟨z, y, w⟩)
theorem yw_fireM {p : Int32} (hn : n < 2 ^ 31) (hp : ¬ (0 ≤ p.toInt ∧ p.toInt < n)) (h : post (-1) (nI S, nI K0, nI K1, nI R, nI n, nI g, nI cu, nI an, nA rl, nA ds)) : wpY_fire post (nI S, nI K0, nI K1, nI R, nI n, nI g, nI cu, nI an, nA rl, nA ds) p := by
  unfold wpY_fire
  dsimp only
  rw [ba_lt0, ba_lt hn]
  exact br_c (fun _ => h) (fun z => br_f (by omega) h)
theorem yw_loseM {p0 p1 : Int32} (hV : cd_V S K0 K1 cu) (hc : cu < 1536) (hp : ¬ ∃ q i, q < 2 ∧ i < wk_len (cd_wd cu q) ∧ p0 = nI q ∧ p1 = nI i) (h : post (-1) (nI S, nI K0, nI K1, nI R, nI n, nI g, nI cu, nI an, nA rl, nA ds)) : wpY_lose post (nI S, nI K0, nI K1, nI R, nI n, nI g, nI cu, nI an, nA rl, nA ds) p0 p1 := by
  by_cases z0 : p0 < 0
  · exact br_t z0 h
  · refine br_f z0 ?_
    by_cases z1 : (1 : Int32) < p0
    · exact br_t z1 h
    · refine br_f z1 ?_
      by_cases y0 : 0 ≤ p1
      · refine br_t y0 ?_
        obtain ⟨q, hq, rfl⟩ := nI_of z0
        obtain ⟨i, hi, rfl⟩ := nI_of (x := p1) (Int32.not_lt.mpr y0)
        have q2 : q < 2 := by
          rcases Nat.lt_or_ge q 2 with w | w
          · exact w
          · exact absurd (nI_lt (a := 1) (by omega) hq) z1
        have hw := cd_w16 (c := cu) q2
        have l3 := wk_len3 _ hw
        refine yw_word (by omega) q2 (yw_length (by omega) ?_)
        refine pk_lt i (wk_len (cd_wd cu q)) (fun w => absurd ⟨q, i, q2, w, rfl, rfl⟩ hp) (fun _ => h)
      · exact br_f y0 h
theorem yw_loseN {q i : Nat} (hc : cu < 1536) (hq : q < 2) (hi : i < wk_len (cd_wd cu q)) (h : post (nI (wk_hd (cd_wd cu q) i)) (nI S, nI K0, nI K1, nI R, nI n, nI g, nI (cd_ls cu q i), nI an, nA rl, nA ds)) : wpY_lose post (nI S, nI K0, nI K1, nI R, nI n, nI g, nI cu, nI an, nA rl, nA ds) (nI q) (nI i) := by
  have hw := cd_w16 (c := cu) hq
  have l3 := wk_len3 _ hw
  refine br_f (nI_pos (by omega)) (br_f (nI_nlt (a := 1) (b := q) (by omega) (by omega)) (br_t (nI_pos' (by omega)) ?_))
  refine yw_word (by omega) hq (yw_length (by omega) (br_t (nI_lt hi (by omega)) ?_))
  refine yw_loseAt (by omega) hq (by omega) (fun _ => ?_) (fun w => absurd hi w)
  exact yw_letterAt (by omega) hi h
end
section
variable {post : Int32 → SX → Prop} {S K0 K1 R cu g n N M an fl lv : Nat} {rm rf rt ro E D C : Nat → Nat}
theorem xw_lose {p0 p1 : Int32} (hc : cu < 1536) (h0 : (¬ ∃ q i, q < 2 ∧ i < wk_len (cd_wd cu q) ∧ p0 = nI q ∧ p1 = nI i) → post (-1) (nI S, nI K0, nI K1, nI R, 9, nI cu, nI g, nI n, nI N, nI M, nI an, nI fl, nI lv, nA rm, nA rf, nA rt, nA ro, nA E, nA D, nA C))
    (h1 : ∀ q i, q < 2 → i < wk_len (cd_wd cu q) → p0 = nI q → p1 = nI i → post (nI (wk_hd (cd_wd cu q) i)) (nI S, nI K0, nI K1, nI R, 9, nI (cd_ls cu q i), nI g, nI n, nI N, nI M, nI an, nI fl, nI lv, nA rm, nA rf, nA rt, nA ro, nA E, nA D, nA C)) : wpX_lose post (nI S, nI K0, nI K1, nI R, 9, nI cu, nI g, nI n, nI N, nI M, nI an, nI fl, nI lv, nA rm, nA rf, nA rt, nA ro, nA E, nA D, nA C) p0 p1 := by
  by_cases z0 : p0 < 0
  · refine br_t z0 (h0 ?_)
    rintro ⟨q, i, w1, w2, rfl, -⟩
    exact nI_pos (by omega) z0
  · refine br_f z0 ?_
    obtain ⟨q, hq, rfl⟩ := nI_of z0
    refine pk_le q 1 (fun z1 => ?_) (fun z1 => h0 ?_)
    · have q2 : q < 2 := by omega
      have hw := cd_w16 (c := cu) q2
      have l3 := wk_len3 _ hw
      refine xw_wordOf (by omega) q2 (xw_length (by omega) ?_)
      by_cases y0 : p1 < 0
      · refine br_t y0 (h0 ?_)
        rintro ⟨q', i, w1, w2, -, rfl⟩
        have := wk_len3 _ (cd_w16 (c := cu) w1)
        exact nI_pos (by omega) y0
      · refine br_f y0 ?_
        obtain ⟨i, hi, rfl⟩ := nI_of y0
        refine pk_lt i (wk_len (cd_wd cu q)) (fun w => ?_) (fun w => h0 ?_)
        · refine xw_lost hc q2 w ?_
          rw [ba_hd _ (by omega) i (by omega) w]
          exact h1 q i q2 w rfl rfl
        · rintro ⟨q', i', v1, v2, v3, v4⟩
          have := wk_len3 _ (cd_w16 (c := cu) v1)
          have e1 := (nI_eq hq (by omega)).mp v3
          have e2 := (nI_eq hi (by omega)).mp v4
          subst e1 e2
          omega
    · rintro ⟨q', i, w1, w2, w3, -⟩
      have := (nI_eq hq (by omega)).mp w3
      omega
end
end
section
/-! each call, both sides -/
section
variable {S K0 K1 R cu g n N M an fl lv : Nat} {rm rf rt ro E D C rl ds : Nat → Nat}
theorem ir_addRule (hF : ir_F R S K0 K1 n g rm rf rt ro cu N M an fl lv E D C rl ds) (v1 v2 v3 v4 : Int32) : wpX_addRule (fun r u' => wpY_addRule (fun r' v' => r' = r ∧ ir_R u' v') (nI S, nI K0, nI K1, nI R, nI n, nI g, nI cu, nI an, nA rl, nA ds) v1 v2 v3 v4) (nI S, nI K0, nI K1, nI R, 9, nI cu, nI g, nI n, nI N, nI M, nI an, nI fl, nI lv, nA rm, nA rf, nA rt, nA ro, nA E, nA D, nA C) v1 v2 v3 v4 := by
  have hs := hF.1
  have hS := hs.1.2.1
  have hn := hs.2.1
  refine xw_addRule (by omega) hn (fun z => ?_) (fun z y => ?_) (fun a b c d ea eb ec ed ok rok hn' => ?_)
  · exact yw_addRule (by omega) hn (fun _ => ⟨rfl, ir_mk hF⟩) (fun w _ => absurd w z) (fun _ _ _ _ _ _ _ _ w _ _ => absurd w z)
  · exact yw_addRule (by omega) hn (fun w => absurd z w) (fun _ _ => ⟨rfl, ir_mk hF⟩) (fun _ _ _ _ _ _ _ _ _ _ w => by omega)
  · refine yw_addRule (by omega) hn (fun w => absurd ok w) (fun _ w => by omega) (fun a' b' c' d' ea' eb' ec' ed' _ rok' _ => ⟨rfl, ?_⟩)
    have inj : ∀ {x y : Nat} {v : Int32}, v = nI x → v = nI y → x < 2 ^ 31 → y < 2 ^ 31 → y = x := fun h1 h2 h3 h4 => (nI_eq h4 h3).mp (h2.symm.trans h1)
    obtain ⟨m1, m2, m3, m4⟩ := rok
    obtain ⟨m1', m2', m3', m4'⟩ := rok'
    have e1 := inj ea ea' (by omega) (by omega)
    have e2 := inj eb eb' (by omega) (by omega)
    have e3 := inj ec ec' (by omega) (by omega)
    have e4 := inj ed ed' (by omega) (by omega)
    subst e1 e2 e3 e4
    refine ir_mk ⟨⟨hs.1, by omega, fun j hj => ?_, hs.2.2.2⟩, fun j hj => ?_, hF.2.2.1, Or.inl rfl⟩
    · by_cases e : j = n
      · subst e
        rw [ba_us, ba_us, ba_us, ba_us]
        exact ⟨m1, m2, m3, m4⟩
      · rw [ba_un e, ba_un e, ba_un e, ba_un e]
        exact hs.2.2.1 j (by omega)
    · by_cases e : j = n
      · subst e
        rw [ba_us, ba_us, ba_us, ba_us, ba_us]
      · rw [ba_un e, ba_un e, ba_un e, ba_un e, ba_un e]
        exact hF.2.1 j (by omega)
theorem ir_ruleAt (hF : ir_F R S K0 K1 n g rm rf rt ro cu N M an fl lv E D C rl ds) (v1 : Int32) : wpX_ruleAt (fun r => wpY_ruleAt (fun r' => r' = r ∧ ir_R (nI S, nI K0, nI K1, nI R, 9, nI cu, nI g, nI n, nI N, nI M, nI an, nI fl, nI lv, nA rm, nA rf, nA rt, nA ro, nA E, nA D, nA C) (nI S, nI K0, nI K1, nI R, nI n, nI g, nI cu, nI an, nA rl, nA ds)) (nI S, nI K0, nI K1, nI R, nI n, nI g, nI cu, nI an, nA rl, nA ds) v1) (nI S, nI K0, nI K1, nI R, 9, nI cu, nI g, nI n, nI N, nI M, nI an, nI fl, nI lv, nA rm, nA rf, nA rt, nA ro, nA E, nA D, nA C) v1 := by
  have hs := hF.1
  have hn := hs.2.1
  unfold wpX_ruleAt
  dsimp only
  refine xw_isRule (by omega) (fun a b => br_f ba_10 ?_) (fun z => br_t rfl ?_)
  · obtain ⟨j, rfl, ej⟩ := ba_of a
    have hj : j < n := by omega
    have i12 : vp_in (nI j) 12 := vp_in_nI (by omega) (by omega)
    have em : nA rm (nI j).toNatClampNeg = nI (rm j) := ba_at (by omega)
    have ef : nA rf (nI j).toNatClampNeg = nI (rf j) := ba_at (by omega)
    have et : nA rt (nI j).toNatClampNeg = nI (rt j) := ba_at (by omega)
    have eo : nA ro (nI j).toNatClampNeg = nI (ro j) := ba_at (by omega)
    have el : nA rl (nI j).toNatClampNeg = nI (rl j) := ba_at (by omega)
    refine ⟨i12, i12, i12, i12, ?_⟩
    refine br_f (nI_pos (by omega)) (br_t (nI_lt hj (by omega)) ⟨i12, ?_, ir_mk hF⟩)
    rw [em, ef, et, eo, el, hF.2.1 j hj]
    show _ = ((((((nI (rm j) * nI 4) + nI (rf j)) * nI 4) + nI (rt j)) * nI 16) + nI (ro j))
    rw [pk_mul, nI_add, pk_mul, nI_add, pk_mul, nI_add]
  · unfold wpY_ruleAt
    dsimp only
    rw [ba_lt0, ba_lt (by omega)]
    exact br_c (fun _ => ⟨rfl, ir_mk hF⟩) (fun y => br_f (by omega) ⟨rfl, ir_mk hF⟩)
theorem ir_setTarget (hF : ir_F R S K0 K1 n g rm rf rt ro cu N M an fl lv E D C rl ds) (v1 v2 v3 v4 : Int32) : wpX_setTarget (fun r u' => wpY_setTarget (fun r' v' => r' = r ∧ ir_R u' v') (nI S, nI K0, nI K1, nI R, nI n, nI g, nI cu, nI an, nA rl, nA ds) v1 v2 v3 v4) (nI S, nI K0, nI K1, nI R, 9, nI cu, nI g, nI n, nI N, nI M, nI an, nI fl, nI lv, nA rm, nA rf, nA rt, nA ro, nA E, nA D, nA C) v1 v2 v3 v4 := by
  have hs := hF.1
  have hp := hs.1
  unfold wpX_setTarget
  dsimp only
  refine xw_isConf hp (fun cf => br_f ba_10 ?_) (fun z => br_t rfl ?_)
  · obtain ⟨a, b, v, w, rfl, rfl, rfl, rfl, h1, h2, h3, h4, h5, h6⟩ := yw_cfx cf
    unfold wpX_pack
    dsimp only
    unfold wpY_setTarget
    dsimp only
    refine yw_valid hp (fun _ => br_f ba_10 ?_) (fun w => absurd cf w)
    rw [yw_pk]
    exact nm_e ⟨rfl, ir_mk ⟨⟨hp, hs.2.1, hs.2.2.1, yw_cfV hp h1 h2 h3 h4 h5 h6⟩, hF.2.1, hF.2.2.1, Or.inl rfl⟩⟩
  · unfold wpY_setTarget
    dsimp only
    exact yw_valid hp (fun w => absurd w z) (fun _ => br_t rfl ⟨rfl, ir_mk hF⟩)
theorem ir_analyse (hF : ir_F R S K0 K1 n g rm rf rt ro cu N M an fl lv E D C rl ds) : wpX_analyse (fun r u' => wpY_analyse (fun r' v' => r' = r ∧ ir_R u' v') (nI S, nI K0, nI K1, nI R, nI n, nI g, nI cu, nI an, nA rl, nA ds)) (nI S, nI K0, nI K1, nI R, 9, nI cu, nI g, nI n, nI N, nI M, nI an, nI fl, nI lv, nA rm, nA rf, nA rt, nA ro, nA E, nA D, nA C) :=
  xw_analyse hF.1 (fun N M fl E D C hok hC hM => yw_analyse hF.1 hF.2.1 (fun ds' hbf => ⟨rfl, ir_mk ⟨hF.1, hF.2.1, hF.2.2.1, Or.inr ⟨rfl, hbf, hok, hC, by have := hok.1.2.1; omega, rfl⟩⟩⟩))
theorem ir_verdict (hF : ir_F R S K0 K1 n g rm rf rt ro cu N M an fl lv E D C rl ds) : wpX_verdict (fun r => wpY_verdict (fun r' => r' = r ∧ ir_R (nI S, nI K0, nI K1, nI R, 9, nI cu, nI g, nI n, nI N, nI M, nI an, nI fl, nI lv, nA rm, nA rf, nA rt, nA ro, nA E, nA D, nA C) (nI S, nI K0, nI K1, nI R, nI n, nI g, nI cu, nI an, nA rl, nA ds)) (nI S, nI K0, nI K1, nI R, nI n, nI g, nI cu, nI an, nA rl, nA ds)) (nI S, nI K0, nI K1, nI R, 9, nI cu, nI g, nI n, nI N, nI M, nI an, nI fl, nI lv, nA rm, nA rf, nA rt, nA ro, nA E, nA D, nA C) := by
  have I := ir_mk hF
  rcases hF.2.2.2 with rfl | ⟨rfl, hbf, hok, hC, hM, hl⟩
  · exact br_t rfl (br_t rfl ⟨rfl, I⟩)
  · exact br_f ba_10 (yw_verdict hF.1 hF.2.1 hbf ⟨by rw [hl], I⟩)
theorem ir_distance (hF : ir_F R S K0 K1 n g rm rf rt ro cu N M an fl lv E D C rl ds) (v1 v2 v3 v4 : Int32) : wpX_distance (fun r => wpY_distance (fun r' => r' = r ∧ ir_R (nI S, nI K0, nI K1, nI R, 9, nI cu, nI g, nI n, nI N, nI M, nI an, nI fl, nI lv, nA rm, nA rf, nA rt, nA ro, nA E, nA D, nA C) (nI S, nI K0, nI K1, nI R, nI n, nI g, nI cu, nI an, nA rl, nA ds)) (nI S, nI K0, nI K1, nI R, nI n, nI g, nI cu, nI an, nA rl, nA ds) v1 v2 v3 v4) (nI S, nI K0, nI K1, nI R, 9, nI cu, nI g, nI n, nI N, nI M, nI an, nI fl, nI lv, nA rm, nA rf, nA rt, nA ro, nA E, nA D, nA C) v1 v2 v3 v4 := by
  have I := ir_mk hF
  have hs := hF.1
  have hp := hs.1
  have hR : R ≤ 32 := hp.2.2.2.2.2.2.2
  unfold wpX_distance
  dsimp only
  refine xw_isConf hp (fun cf => br_f ba_10 ?_) (fun z => br_t rfl ?_)
  · rcases hF.2.2.2 with rfl | ⟨rfl, hbf, hok, hC, hM, hl⟩
    · refine br_t rfl ?_
      unfold wpY_distance
      dsimp only
      exact yw_valid hp (fun _ => br_f ba_10 (br_t rfl ⟨rfl, I⟩)) (fun w => absurd cf w)
    · obtain ⟨a, b, v, w, rfl, rfl, rfl, rfl, h1, h2, h3, h4, h5, h6⟩ := yw_cfx cf
      have hV := yw_cfV hp h1 h2 h3 h4 h5 h6
      refine br_f ba_10 ?_
      unfold wpX_pack
      dsimp only
      rw [yw_pk]
      generalize hce : ((a * 4 + b) * 16 + v) * 8 + w = c at hV
      have hc := (cd_lt hp hV).1
      refine xw_distV hs hok hV (fun k kR k1 k2 => ?_) (fun z => ?_)
      · unfold wpY_distance
        dsimp only
        refine yw_valid hp (fun _ => br_f ba_10 (br_f ba_10 (nm_r (e' := nI c) (by rw [yw_pk, hce]) ?_))) (fun w => absurd cf w)
        refine yw_memV hs hbf hV (fun _ => br_f ba_10 (yw_knownN hc ⟨?_, I⟩)) (fun z => absurd (rc_mono kR k1) z)
        rw [ad_ds hs hbf hV (by omega) k1 k2]
      · unfold wpY_distance
        dsimp only
        refine yw_valid hp (fun _ => br_f ba_10 (br_f ba_10 (nm_r (e' := nI c) (by rw [yw_pk, hce]) ?_))) (fun w => absurd cf w)
        exact yw_memV hs hbf hV (fun y => absurd y z) (fun _ => br_t rfl ⟨rfl, I⟩)
  · unfold wpY_distance
    dsimp only
    exact yw_valid hp (fun w => absurd w z) (fun _ => br_t rfl ⟨rfl, I⟩)
theorem ir_minCount (hF : ir_F R S K0 K1 n g rm rf rt ro cu N M an fl lv E D C rl ds) : wpX_minimalCount (fun r => wpY_minimalCount (fun r' => r' = r ∧ ir_R (nI S, nI K0, nI K1, nI R, 9, nI cu, nI g, nI n, nI N, nI M, nI an, nI fl, nI lv, nA rm, nA rf, nA rt, nA ro, nA E, nA D, nA C) (nI S, nI K0, nI K1, nI R, nI n, nI g, nI cu, nI an, nA rl, nA ds)) (nI S, nI K0, nI K1, nI R, nI n, nI g, nI cu, nI an, nA rl, nA ds)) (nI S, nI K0, nI K1, nI R, 9, nI cu, nI g, nI n, nI N, nI M, nI an, nI fl, nI lv, nA rm, nA rf, nA rt, nA ro, nA E, nA D, nA C) := by
  have I := ir_mk hF
  rcases hF.2.2.2 with rfl | ⟨rfl, hbf, hok, hC, hM, hl⟩
  · exact br_t rfl (br_t rfl ⟨rfl, I⟩)
  · exact br_f ba_10 (yw_minCount hF.1 hF.2.1 hbf hC hM ⟨rfl, I⟩)
theorem ir_minAt (hF : ir_F R S K0 K1 n g rm rf rt ro cu N M an fl lv E D C rl ds) (v1 : Int32) : wpX_minimalAt (fun r => wpY_minimalAt (fun r' => r' = r ∧ ir_R (nI S, nI K0, nI K1, nI R, 9, nI cu, nI g, nI n, nI N, nI M, nI an, nI fl, nI lv, nA rm, nA rf, nA rt, nA ro, nA E, nA D, nA C) (nI S, nI K0, nI K1, nI R, nI n, nI g, nI cu, nI an, nA rl, nA ds)) (nI S, nI K0, nI K1, nI R, nI n, nI g, nI cu, nI an, nA rl, nA ds) v1) (nI S, nI K0, nI K1, nI R, 9, nI cu, nI g, nI n, nI N, nI M, nI an, nI fl, nI lv, nA rm, nA rf, nA rt, nA ro, nA E, nA D, nA C) v1 := by
  have I := ir_mk hF
  rcases hF.2.2.2 with rfl | ⟨rfl, hbf, hok, hC, hM, hl⟩
  · exact br_t rfl (br_t rfl ⟨rfl, I⟩)
  · refine br_f ba_10 ?_
    by_cases z : v1 < 0
    · exact br_t z (yw_minAt hF.1 hF.2.1 hbf hC hM (fun j hj e => absurd z (by rw [e]; exact nI_pos (by omega))) (fun _ => ⟨rfl, I⟩))
    · obtain ⟨j, hj, rfl⟩ := nI_of z
      refine br_f z ?_
      refine pk_lt j M (fun y => ⟨vp_in_nI (by omega) (by omega), ?_⟩) (fun y => ?_)
      · have e : nA C (nI j).toNatClampNeg = nI (C j) := ba_at (by omega)
        rw [e]
        refine yw_minAt hF.1 hF.2.1 hbf hC hM (fun i hi ei => ⟨?_, I⟩) (fun w => absurd rfl (w j y))
        have := (nI_eq hj (by omega)).mp ei
        rw [this]
      · exact yw_minAt hF.1 hF.2.1 hbf hC hM (fun i hi ei => by have := (nI_eq hj (by omega)).mp ei; omega) (fun _ => ⟨rfl, I⟩)
theorem ir_restart (hF : ir_F R S K0 K1 n g rm rf rt ro cu N M an fl lv E D C rl ds) : wpX_restart (fun u' => wpY_restart (fun v' => ir_R u' v') (nI S, nI K0, nI K1, nI R, nI n, nI g, nI cu, nI an, nA rl, nA ds)) (nI S, nI K0, nI K1, nI R, 9, nI cu, nI g, nI n, nI N, nI M, nI an, nI fl, nI lv, nA rm, nA rf, nA rt, nA ro, nA E, nA D, nA C) :=
  ir_mk (ir_cur hF (yw_V9 hF.1.1))
theorem ir_covered (hF : ir_F R S K0 K1 n g rm rf rt ro cu N M an fl lv E D C rl ds) : wpX_covered (fun r => wpY_covered (fun r' => r' = r ∧ ir_R (nI S, nI K0, nI K1, nI R, 9, nI cu, nI g, nI n, nI N, nI M, nI an, nI fl, nI lv, nA rm, nA rf, nA rt, nA ro, nA E, nA D, nA C) (nI S, nI K0, nI K1, nI R, nI n, nI g, nI cu, nI an, nA rl, nA ds)) (nI S, nI K0, nI K1, nI R, nI n, nI g, nI cu, nI an, nA rl, nA ds)) (nI S, nI K0, nI K1, nI R, 9, nI cu, nI g, nI n, nI N, nI M, nI an, nI fl, nI lv, nA rm, nA rf, nA rt, nA ro, nA E, nA D, nA C) := by
  have I := ir_mk hF
  have hg := (cd_lt hF.1.1 hF.1.2.2.2).1
  have hc := (cd_lt hF.1.1 hF.2.2.1).1
  unfold wpX_covered
  dsimp only
  refine xw_isBelow (by omega) (by omega) (fun z => ⟨narrow_b1, ?_⟩) (fun z => ⟨narrow_b0, ?_⟩)
  · unfold wpY_covered
    dsimp only
    exact yw_covers (by omega) (by omega) (fun _ => ⟨narrow_b1, rfl, I⟩) (fun w => absurd z w)
  · unfold wpY_covered
    dsimp only
    exact yw_covers (by omega) (by omega) (fun w => absurd w z) (fun _ => ⟨narrow_b0, rfl, I⟩)
theorem ir_fire (hF : ir_F R S K0 K1 n g rm rf rt ro cu N M an fl lv E D C rl ds) (v1 : Int32) : wpX_fire (fun r u' => wpY_fire (fun r' v' => r' = r ∧ ir_R u' v') (nI S, nI K0, nI K1, nI R, nI n, nI g, nI cu, nI an, nA rl, nA ds) v1) (nI S, nI K0, nI K1, nI R, 9, nI cu, nI g, nI n, nI N, nI M, nI an, nI fl, nI lv, nA rm, nA rf, nA rt, nA ro, nA E, nA D, nA C) v1 := by
  have I := ir_mk hF
  have hs := hF.1
  have hn := hs.2.1
  have hV := hF.2.2.1
  unfold wpX_fire
  dsimp only
  refine xw_isRule (by omega) (fun a b => br_f ba_10 ?_) (fun z => br_t rfl (yw_fireM (by omega) z ⟨rfl, I⟩))
  obtain ⟨r, rfl, er⟩ := ba_of a
  have hr : r < n := by omega
  have hru := hs.2.2.1 r hr
  refine xw_isEnabled hs.1 hV (by omega) hru (fun en => br_f ba_10 ?_) (fun en => br_t rfl (yw_fireN hs hF.2.1 hV hr (fun _ => ⟨rfl, I⟩) (fun w => absurd w en) (fun w => absurd w en)))
  have I2 := ir_mk (ir_cur hF (ru_V hs.1 hru hV en))
  refine xw_drops hs.1 hV (by omega) hru (fun d1 d2 d3 => ?_) (fun dn => ?_)
  · refine xw_fired hs.1 hV (by omega) hru en (br_f ba_10 ?_)
    exact yw_fireN hs hF.2.1 hV hr (fun w => absurd en w) (fun _ w => absurd ⟨d1, d2, d3⟩ w) (fun _ _ => ⟨rfl, I2⟩)
  · refine xw_fired hs.1 hV (by omega) hru en (br_t rfl ?_)
    exact yw_fireN hs hF.2.1 hV hr (fun w => absurd en w) (fun _ _ => ⟨rfl, I2⟩) (fun _ w => absurd w dn)
theorem ir_lose (hF : ir_F R S K0 K1 n g rm rf rt ro cu N M an fl lv E D C rl ds) (v1 v2 : Int32) : wpX_lose (fun r u' => wpY_lose (fun r' v' => r' = r ∧ ir_R u' v') (nI S, nI K0, nI K1, nI R, nI n, nI g, nI cu, nI an, nA rl, nA ds) v1 v2) (nI S, nI K0, nI K1, nI R, 9, nI cu, nI g, nI n, nI N, nI M, nI an, nI fl, nI lv, nA rm, nA rf, nA rt, nA ro, nA E, nA D, nA C) v1 v2 := by
  have hV := hF.2.2.1
  have hc := (cd_lt hF.1.1 hV).1
  refine xw_lose hc (fun z => yw_loseM hV hc z ⟨rfl, ir_mk hF⟩) (fun q i hq hi e1 e2 => ?_)
  subst e1 e2
  exact yw_loseN hc hq hi ⟨rfl, ir_mk (ir_cur hF (cd_lsV hV hq hi))⟩
theorem ir_advise (hF : ir_F R S K0 K1 n g rm rf rt ro cu N M an fl lv E D C rl ds) : wpX_advise (fun r => wpY_advise (fun r' => r' = r ∧ ir_R (nI S, nI K0, nI K1, nI R, 9, nI cu, nI g, nI n, nI N, nI M, nI an, nI fl, nI lv, nA rm, nA rf, nA rt, nA ro, nA E, nA D, nA C) (nI S, nI K0, nI K1, nI R, nI n, nI g, nI cu, nI an, nA rl, nA ds)) (nI S, nI K0, nI K1, nI R, nI n, nI g, nI cu, nI an, nA rl, nA ds)) (nI S, nI K0, nI K1, nI R, 9, nI cu, nI g, nI n, nI N, nI M, nI an, nI fl, nI lv, nA rm, nA rf, nA rt, nA ro, nA E, nA D, nA C) := by
  have I := ir_mk hF
  rcases hF.2.2.2 with rfl | ⟨rfl, hbf, hok, hC, hM, hl⟩
  · exact br_t rfl (br_t rfl ⟨rfl, I⟩)
  · exact xw_advise hF.1 hok hbf hF.2.2.1 (fun r hr => yw_advise hF.1 hF.2.1 hF.2.2.1 hbf (fun r' hr' => ⟨ad_u hr hr', I⟩))
theorem ir_advance (hF : ir_F R S K0 K1 n g rm rf rt ro cu N M an fl lv E D C rl ds) : wpX_advance (fun r u' => wpY_advance (fun r' v' => r' = r ∧ ir_R u' v') (nI S, nI K0, nI K1, nI R, nI n, nI g, nI cu, nI an, nA rl, nA ds)) (nI S, nI K0, nI K1, nI R, 9, nI cu, nI g, nI n, nI N, nI M, nI an, nI fl, nI lv, nA rm, nA rf, nA rt, nA ro, nA E, nA D, nA C) := by
  have I := ir_mk hF
  have hs := hF.1
  have hV := hF.2.2.1
  unfold wpX_advance
  dsimp only
  rcases hF.2.2.2 with rfl | ⟨rfl, hbf, hok, hC, hM, hl⟩
  · refine br_t rfl (br_t (by decide) (br_t (by decide) ?_))
    unfold wpY_advance
    dsimp only
    exact br_t rfl (br_t (by decide) ⟨rfl, I⟩)
  · refine xw_advise hs hok hbf hV (fun r hr => ?_)
    refine xw_go (post := fun r u' => wpY_advance (fun r' v' => r' = r ∧ ir_R u' v') (nI S, nI K0, nI K1, nI R, nI n, nI g, nI cu, nI 1, nA rl, nA ds)) hs hV hr (fun z => ?_) (fun mv x k e h1 hE => ?_)
    · unfold wpY_advance
      dsimp only
      refine yw_advise hs hF.2.1 hV hbf (fun r' hr' => ?_)
      have e := ad_u hr hr'
      subst e
      exact br_t z ⟨rfl, I⟩
    · unfold wpY_advance
      dsimp only
      refine yw_advise hs hF.2.1 hV hbf (fun r' hr' => ?_)
      have e' := ad_u hr hr'
      subst e'
      subst e
      refine br_f (nI_pos (by omega)) ?_
      refine yw_after hs hF.2.1 hV h1 (fun x' k' hE' => ⟨rfl, ?_⟩) (fun z => absurd hE (z x k))
      obtain ⟨rfl, rfl⟩ := ya_Ed hs.2.1 hE hE'
      exact ir_mk (ir_cur hF (bf_EV hs hV hE'))
end
end
section
/-- the two states: equal where they keep alike; if analysed, the component's entries and the reference's table tell the same distances -/
def i_Rel (k : Nat) (u : SX) (v : SY) : Prop := ir_R u v
theorem i_up {k : Nat} {u : SX} {v : SY} (h : i_Rel k u v) : i_Rel (k + 5) u v := h
theorem i_vc0 (k0 : Int32) (k1 : Int32) (k2 : Int32) (k3 : Int32) : wpX_init (fun u => wpY_init (fun v => i_Rel 4 u v) k0 k1 k2 k3) k0 k1 k2 k3 := ir_init k0 k1 k2 k3
theorem i_vc_addRule {k : Nat} {u : SX} {v : SY} (I : i_Rel k u v) (hk : k + 5 ≤ 2564) (v1 : Int32) (v2 : Int32) (v3 : Int32) (v4 : Int32) : wpX_addRule (fun r u' => wpY_addRule (fun r' v' => r' = r ∧ i_Rel (k + 5) u' v') v v1 v2 v3 v4) u v1 v2 v3 v4 :=
  ir_el (P := fun u v => wpX_addRule (fun r u' => wpY_addRule (fun r' v' => r' = r ∧ ir_R u' v') v v1 v2 v3 v4) u v1 v2 v3 v4) (fun _ _ _ _ _ _ _ _ _ _ _ _ _ _ _ _ _ _ _ _ _ hF => ir_addRule hF v1 v2 v3 v4) I
theorem i_vc_ruleAt {k : Nat} {u : SX} {v : SY} (I : i_Rel k u v) (hk : k + 5 ≤ 2564) (v1 : Int32) : wpX_ruleAt (fun r => wpY_ruleAt (fun r' => r' = r ∧ i_Rel (k + 5) u v) v v1) u v1 :=
  ir_el (P := fun u v => wpX_ruleAt (fun r => wpY_ruleAt (fun r' => r' = r ∧ ir_R u v) v v1) u v1) (fun _ _ _ _ _ _ _ _ _ _ _ _ _ _ _ _ _ _ _ _ _ hF => ir_ruleAt hF v1) I
theorem i_vc_setTarget {k : Nat} {u : SX} {v : SY} (I : i_Rel k u v) (hk : k + 5 ≤ 2564) (v1 : Int32) (v2 : Int32) (v3 : Int32) (v4 : Int32) : wpX_setTarget (fun r u' => wpY_setTarget (fun r' v' => r' = r ∧ i_Rel (k + 5) u' v') v v1 v2 v3 v4) u v1 v2 v3 v4 :=
  ir_el (P := fun u v => wpX_setTarget (fun r u' => wpY_setTarget (fun r' v' => r' = r ∧ ir_R u' v') v v1 v2 v3 v4) u v1 v2 v3 v4) (fun _ _ _ _ _ _ _ _ _ _ _ _ _ _ _ _ _ _ _ _ _ hF => ir_setTarget hF v1 v2 v3 v4) I
theorem i_vc_target {k : Nat} {u : SX} {v : SY} (I : i_Rel k u v) (hk : k + 5 ≤ 2564) : wpX_target (fun r => wpY_target (fun r' => r' = r ∧ i_Rel (k + 5) u v) v) u :=
  ir_el (P := fun u v => wpX_target (fun r => wpY_target (fun r' => r' = r ∧ ir_R u v) v) u) (fun _ _ _ _ _ _ _ _ _ _ _ _ _ _ _ _ _ _ _ _ _ hF => ⟨rfl, ir_mk hF⟩) I
theorem i_vc_analyse {k : Nat} {u : SX} {v : SY} (I : i_Rel k u v) (hk : k + 5 ≤ 2564) : wpX_analyse (fun r u' => wpY_analyse (fun r' v' => r' = r ∧ i_Rel (k + 5) u' v') v) u :=
  ir_el (P := fun u v => wpX_analyse (fun r u' => wpY_analyse (fun r' v' => r' = r ∧ ir_R u' v') v) u) (fun _ _ _ _ _ _ _ _ _ _ _ _ _ _ _ _ _ _ _ _ _ hF => ir_analyse hF) I
theorem i_vc_verdict {k : Nat} {u : SX} {v : SY} (I : i_Rel k u v) (hk : k + 5 ≤ 2564) : wpX_verdict (fun r => wpY_verdict (fun r' => r' = r ∧ i_Rel (k + 5) u v) v) u :=
  ir_el (P := fun u v => wpX_verdict (fun r => wpY_verdict (fun r' => r' = r ∧ ir_R u v) v) u) (fun _ _ _ _ _ _ _ _ _ _ _ _ _ _ _ _ _ _ _ _ _ hF => ir_verdict hF) I
theorem i_vc_distance {k : Nat} {u : SX} {v : SY} (I : i_Rel k u v) (hk : k + 5 ≤ 2564) (v1 : Int32) (v2 : Int32) (v3 : Int32) (v4 : Int32) : wpX_distance (fun r => wpY_distance (fun r' => r' = r ∧ i_Rel (k + 5) u v) v v1 v2 v3 v4) u v1 v2 v3 v4 :=
  ir_el (P := fun u v => wpX_distance (fun r => wpY_distance (fun r' => r' = r ∧ ir_R u v) v v1 v2 v3 v4) u v1 v2 v3 v4) (fun _ _ _ _ _ _ _ _ _ _ _ _ _ _ _ _ _ _ _ _ _ hF => ir_distance hF v1 v2 v3 v4) I
theorem i_vc_minimalCount {k : Nat} {u : SX} {v : SY} (I : i_Rel k u v) (hk : k + 5 ≤ 2564) : wpX_minimalCount (fun r => wpY_minimalCount (fun r' => r' = r ∧ i_Rel (k + 5) u v) v) u :=
  ir_el (P := fun u v => wpX_minimalCount (fun r => wpY_minimalCount (fun r' => r' = r ∧ ir_R u v) v) u) (fun _ _ _ _ _ _ _ _ _ _ _ _ _ _ _ _ _ _ _ _ _ hF => ir_minCount hF) I
theorem i_vc_minimalAt {k : Nat} {u : SX} {v : SY} (I : i_Rel k u v) (hk : k + 5 ≤ 2564) (v1 : Int32) : wpX_minimalAt (fun r => wpY_minimalAt (fun r' => r' = r ∧ i_Rel (k + 5) u v) v v1) u v1 :=
  ir_el (P := fun u v => wpX_minimalAt (fun r => wpY_minimalAt (fun r' => r' = r ∧ ir_R u v) v v1) u v1) (fun _ _ _ _ _ _ _ _ _ _ _ _ _ _ _ _ _ _ _ _ _ hF => ir_minAt hF v1) I
theorem i_vc_configuration {k : Nat} {u : SX} {v : SY} (I : i_Rel k u v) (hk : k + 5 ≤ 2564) : wpX_configuration (fun r => wpY_configuration (fun r' => r' = r ∧ i_Rel (k + 5) u v) v) u :=
  ir_el (P := fun u v => wpX_configuration (fun r => wpY_configuration (fun r' => r' = r ∧ ir_R u v) v) u) (fun _ _ _ _ _ _ _ _ _ _ _ _ _ _ _ _ _ _ _ _ _ hF => ⟨rfl, ir_mk hF⟩) I
theorem i_vc_restart {k : Nat} {u : SX} {v : SY} (I : i_Rel k u v) (hk : k + 5 ≤ 2564) : wpX_restart (fun u' => wpY_restart (fun v' => i_Rel (k + 5) u' v') v) u :=
  ir_el (P := fun u v => wpX_restart (fun u' => wpY_restart (fun v' => ir_R u' v') v) u) (fun _ _ _ _ _ _ _ _ _ _ _ _ _ _ _ _ _ _ _ _ _ hF => ir_restart hF) I
theorem i_vc_covered {k : Nat} {u : SX} {v : SY} (I : i_Rel k u v) (hk : k + 5 ≤ 2564) : wpX_covered (fun r => wpY_covered (fun r' => r' = r ∧ i_Rel (k + 5) u v) v) u :=
  ir_el (P := fun u v => wpX_covered (fun r => wpY_covered (fun r' => r' = r ∧ ir_R u v) v) u) (fun _ _ _ _ _ _ _ _ _ _ _ _ _ _ _ _ _ _ _ _ _ hF => ir_covered hF) I
theorem i_vc_fire {k : Nat} {u : SX} {v : SY} (I : i_Rel k u v) (hk : k + 5 ≤ 2564) (v1 : Int32) : wpX_fire (fun r u' => wpY_fire (fun r' v' => r' = r ∧ i_Rel (k + 5) u' v') v v1) u v1 :=
  ir_el (P := fun u v => wpX_fire (fun r u' => wpY_fire (fun r' v' => r' = r ∧ ir_R u' v') v v1) u v1) (fun _ _ _ _ _ _ _ _ _ _ _ _ _ _ _ _ _ _ _ _ _ hF => ir_fire hF v1) I
theorem i_vc_lose {k : Nat} {u : SX} {v : SY} (I : i_Rel k u v) (hk : k + 5 ≤ 2564) (v1 : Int32) (v2 : Int32) : wpX_lose (fun r u' => wpY_lose (fun r' v' => r' = r ∧ i_Rel (k + 5) u' v') v v1 v2) u v1 v2 :=
  ir_el (P := fun u v => wpX_lose (fun r u' => wpY_lose (fun r' v' => r' = r ∧ ir_R u' v') v v1 v2) u v1 v2) (fun _ _ _ _ _ _ _ _ _ _ _ _ _ _ _ _ _ _ _ _ _ hF => ir_lose hF v1 v2) I
theorem i_vc_advise {k : Nat} {u : SX} {v : SY} (I : i_Rel k u v) (hk : k + 5 ≤ 2564) : wpX_advise (fun r => wpY_advise (fun r' => r' = r ∧ i_Rel (k + 5) u v) v) u :=
  ir_el (P := fun u v => wpX_advise (fun r => wpY_advise (fun r' => r' = r ∧ ir_R u v) v) u) (fun _ _ _ _ _ _ _ _ _ _ _ _ _ _ _ _ _ _ _ _ _ hF => ir_advise hF) I
theorem i_vc_advance {k : Nat} {u : SX} {v : SY} (I : i_Rel k u v) (hk : k + 5 ≤ 2564) : wpX_advance (fun r u' => wpY_advance (fun r' v' => r' = r ∧ i_Rel (k + 5) u' v') v) u :=
  ir_el (P := fun u v => wpX_advance (fun r u' => wpY_advance (fun r' v' => r' = r ∧ ir_R u' v') v) u) (fun _ _ _ _ _ _ _ _ _ _ _ _ _ _ _ _ _ _ _ _ _ hF => ir_advance hF) I
end
