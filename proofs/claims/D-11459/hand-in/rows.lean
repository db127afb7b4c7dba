section
/-! whole numbers as ints; bits of small sets; lists in arrays -/
def zt_i (z : Int) : Int32 := Int32.ofInt z
theorem zt_n (n : Nat) : nI n = zt_i n := Int32.ofInt_eq_ofNat.symm
theorem zt_T {z : Int} (h1 : -1000000 ≤ z) (h2 : z ≤ 1000000) : (zt_i z).toInt = z := Int32.toInt_ofInt_of_le (by omega) (by omega)
theorem zt_le {a b : Int} (h1 : -1000000 ≤ a) (h2 : a ≤ 1000000) (h3 : -1000000 ≤ b) (h4 : b ≤ 1000000) : zt_i a ≤ zt_i b ↔ a ≤ b := by
  rw [Int32.le_iff_toInt_le, zt_T h1 h2, zt_T h3 h4]
theorem zt_lt {a b : Int} (h1 : -1000000 ≤ a) (h2 : a ≤ 1000000) (h3 : -1000000 ≤ b) (h4 : b ≤ 1000000) : zt_i a < zt_i b ↔ a < b := by
  rw [Int32.lt_iff_toInt_lt, zt_T h1 h2, zt_T h3 h4]
theorem zt_eq {a b : Int} (h1 : -1000000 ≤ a) (h2 : a ≤ 1000000) (h3 : -1000000 ≤ b) (h4 : b ≤ 1000000) : zt_i a = zt_i b ↔ a = b := by
  rw [← Int32.toInt_inj, zt_T h1 h2, zt_T h3 h4]
theorem zt_add (a b : Int) : zt_i a + zt_i b = zt_i (a + b) := (Int32.ofInt_add a b).symm
theorem zt_sub (a b : Int) : zt_i a - zt_i b = zt_i (a - b) := (Int32.ofInt_sub a b).symm
theorem zt_4 (a b c d : Nat) : ((nI a + nI b) - nI c) - nI d = zt_i ((a : Int) + b - c - d) := by
  rw [zt_n, zt_n, zt_n, zt_n, zt_add, zt_sub, zt_sub]
theorem zt_0 : (0 : Int32) = zt_i 0 := by decide
theorem zt_1000 : (1000 : Int32) = zt_i 1000 := by decide
theorem zt_ix (i j : Nat) : (7 * nI i) + nI j = nI (7 * i + j) := by
  rw [show (7 : Int32) = nI 7 from rfl, pk_mul, nI_add]
theorem zt_2 (n : Nat) : 2 * nI n = nI (2 * n) := by
  rw [show (2 : Int32) = nI 2 from rfl, pk_mul]
/-- bit x of the set s -/
def zt_b (s x : Nat) : Nat := s / 2 ^ x % 2
theorem zt_b_01 (s x : Nat) : zt_b s x = 0 ∨ zt_b s x = 1 := by
  unfold zt_b
  omega
theorem zt_bit : ∀ s, s < 32 → ∀ x, x < 5 → ((nI s >>> (nI x &&& 31)) &&& 1) = nI (zt_b s x) := by decide +kernel
theorem zt_bit0 {s x : Nat} (hs : s < 32) (hx : x < 5) : ((nI s >>> (nI x &&& 31)) &&& 1) = 0 ↔ zt_b s x = 0 := by
  rw [zt_bit s hs x hx]
  rcases zt_b_01 s x with h | h <;> rw [h] <;> decide
theorem zt_bit1 {s x : Nat} (hs : s < 32) (hx : x < 5) : ((nI s >>> (nI x &&& 31)) &&& 1) = 1 ↔ zt_b s x = 1 := by
  rw [zt_bit s hs x hx]
  rcases zt_b_01 s x with h | h <;> rw [h] <;> decide
theorem zt_bitE {s x y : Nat} (hs : s < 32) (hx : x < 5) (hy : y < 5) : ((nI s >>> (nI x &&& 31)) &&& 1) = ((nI s >>> (nI y &&& 31)) &&& 1) ↔ zt_b s x = zt_b s y := by
  rw [zt_bit s hs x hx, zt_bit s hs y hy]
  rcases zt_b_01 s x with h | h <;> rcases zt_b_01 s y with h' | h' <;> rw [h, h'] <;> decide
theorem zt_full : ∀ n, n < 6 → ((1 : Int32) <<< (nI n &&& 31)) - 1 = nI (2 ^ n - 1) := by decide +kernel
theorem zt_or : ∀ n, n < 5 → ∀ s, s < 32 → s < 2 ^ n → (nI s ||| ((1 : Int32) <<< (nI n &&& 31))) = nI (s + 2 ^ n) := by decide +kernel
theorem zt_byte : ∀ s, s < 128 → (nI s).toInt8.toInt32 = nI s := by decide +kernel
theorem zt_nar {s : Nat} (h : s < 128) : vp_nar .byte (nI s) = nI s := by
  rw [vp_nar_byte, zt_byte s h]
theorem zt_sb : ∀ a, a < 32 → ∀ b, b < 32 → ((nI a &&& (nI b ^^^ (-1))) = 0 ↔ a &&& b = a) := by decide +kernel
theorem zt_or31 : ∀ a, a < 32 → ∀ b, b < 32 → ((nI a ||| nI b) = ((1 : Int32) <<< (nI 5 &&& 31)) - 1 ↔ a ||| b = 31) := by decide +kernel
/-- the first places of an array hold a list -/
def zt_ls (a : Nat → Int32) (L : List Nat) : Prop := ∀ j, j < L.length → a j = nI (L.getD j 0)
theorem zt_ls0 (a : Nat → Int32) : zt_ls a [] := fun j h => absurd h (Nat.not_lt_zero j)
theorem zt_lsApp {a : Nat → Int32} {L : List Nat} {k x : Nat} (h : zt_ls a L) (hk : k = L.length) : zt_ls (upd a k (nI x)) (L ++ [x]) := by
  intro j hj
  rw [List.length_append] at hj
  have hj' : j < L.length + 1 := hj
  by_cases e : j = L.length
  · rw [e, hk, pk_us]
    congr 1
    simp [List.getD]
  · rw [pk_un (by omega), h j (by omega)]
    congr 1
    simp only [List.getD]
    rw [List.getElem?_append_left (by omega)]
theorem zt_getMap (V : Nat → Nat) (L : List Nat) {j : Nat} (h : j < L.length) : (L.map V).getD j 0 = V (L.getD j 0) := by
  simp [List.getD, List.getElem?_eq_getElem h]
theorem zt_lsM {a : Nat → Int32} {L : List Nat} {V : Nat → Nat} (h : zt_ls a (L.map V)) {j : Nat} (hj : j < L.length) : a j = nI (V (L.getD j 0)) := by
  rw [h j (by rw [List.length_map]; exact hj), zt_getMap V L hj]
theorem zt_getMem {L : List Nat} {j : Nat} (h : j < L.length) : L.getD j 0 ∈ L := by
  simp [List.getD, List.getElem?_eq_getElem h]
theorem zt_takeS {L : List Nat} {j : Nat} (h : j < L.length) : L.take (j + 1) = L.take j ++ [L.getD j 0] := by
  rw [List.take_succ]
  simp [List.getD, List.getElem?_eq_getElem h]
theorem zt_le0 {r : Int} (h1 : -1000000 ≤ r) (h2 : r ≤ 1000000) : zt_i r ≤ 0 ↔ r ≤ 0 := by
  rw [zt_0]
  exact zt_le h1 h2 (by decide) (by decide)
end
section
/-! the tree: its seven splits, the distances, the indices -/
def zt_tr (e : Nat) : Nat := [1, 29, 27, 23, 15, 3, 7].getD e 0
def zt_c (e i j : Nat) : Nat := if zt_b (zt_tr e) i = zt_b (zt_tr e) j then 0 else 1
def zt_v (n s e : Nat) : Nat := if zt_tr e % 2 ^ n = s then 2 else 0
def zt_t (e a b x y : Nat) : Int := (zt_c e a x : Int) + zt_c e b y - zt_c e a b - zt_c e x y
def zt_s7 (l : Nat → Nat) (f : Nat → Nat) : Nat := l 0 * f 0 + l 1 * f 1 + l 2 * f 2 + l 3 * f 3 + l 4 * f 4 + l 5 * f 5 + l 6 * f 6
def zt_z7 (l : Nat → Nat) (f : Nat → Int) : Int := l 0 * f 0 + l 1 * f 1 + l 2 * f 2 + l 3 * f 3 + l 4 * f 4 + l 5 * f 5 + l 6 * f 6
def zt_d (l : Nat → Nat) (i j : Nat) : Nat := zt_s7 l (fun e => zt_c e i j)
def zt_V (l : Nat → Nat) (n s : Nat) : Nat := zt_s7 l (fun e => zt_v n s e)
def zt_TT (D : Nat → Nat → Nat) (a b x y : Nat) : Int := (D a x : Int) + D b y - D a b - D x y
theorem zt_z7le {l : Nat → Nat} {f g : Nat → Int} (h : ∀ e : Nat, e < 7 → f e ≤ g e) : zt_z7 l f ≤ zt_z7 l g := by
  have k : ∀ e : Nat, e < 7 → (l e : Int) * f e ≤ l e * g e := fun e he => Int.mul_le_mul_of_nonneg_left (h e he) (Int.natCast_nonneg _)
  have k0 := k 0 (by decide)
  have k1 := k 1 (by decide)
  have k2 := k 2 (by decide)
  have k3 := k 3 (by decide)
  have k4 := k 4 (by decide)
  have k5 := k 5 (by decide)
  have k6 := k 6 (by decide)
  unfold zt_z7
  omega
theorem zt_s7z (l f : Nat → Nat) : ((zt_s7 l f : Nat) : Int) = zt_z7 l (fun e => (f e : Int)) := by
  unfold zt_s7 zt_z7
  push_cast
  rfl
theorem zt_Tz (l : Nat → Nat) (a b x y : Nat) : zt_TT (zt_d l) a b x y = zt_z7 l (fun e => zt_t e a b x y) := by
  unfold zt_TT zt_d zt_t
  rw [zt_s7z, zt_s7z, zt_s7z, zt_s7z]
  unfold zt_z7
  simp only [Int.mul_add, Int.mul_sub]
  omega
theorem zt_s7le {l f g : Nat → Nat} (h : ∀ e : Nat, e < 7 → f e ≤ g e) : zt_s7 l f ≤ zt_s7 l g := by
  have k : ∀ e : Nat, e < 7 → l e * f e ≤ l e * g e := fun e he => Nat.mul_le_mul_left _ (h e he)
  have k0 := k 0 (by decide)
  have k1 := k 1 (by decide)
  have k2 := k 2 (by decide)
  have k3 := k 3 (by decide)
  have k4 := k 4 (by decide)
  have k5 := k 5 (by decide)
  have k6 := k 6 (by decide)
  unfold zt_s7
  omega
theorem zt_s7b {l f : Nat → Nat} {c : Nat} (hl : ∀ e : Nat, e < 7 → l e ≤ 7) (h : ∀ e : Nat, e < 7 → f e ≤ c) : zt_s7 l f ≤ 49 * c := by
  have k : ∀ e : Nat, e < 7 → l e * f e ≤ 7 * c := fun e he => Nat.mul_le_mul (hl e he) (h e he)
  have k0 := k 0 (by decide)
  have k1 := k 1 (by decide)
  have k2 := k 2 (by decide)
  have k3 := k 3 (by decide)
  have k4 := k 4 (by decide)
  have k5 := k 5 (by decide)
  have k6 := k 6 (by decide)
  unfold zt_s7
  omega
theorem zt_s7pos (l f : Nat → Nat) : 0 < zt_s7 l f ↔ ∃ e, e < 7 ∧ 0 < l e * f e := by
  constructor
  · intro h
    refine Classical.byContradiction (fun hn => ?_)
    have k : ∀ e : Nat, e < 7 → l e * f e = 0 := by
      intro e he
      refine Classical.byContradiction (fun h0 => hn ⟨e, he, by omega⟩)
    have k0 := k 0 (by decide)
    have k1 := k 1 (by decide)
    have k2 := k 2 (by decide)
    have k3 := k 3 (by decide)
    have k4 := k 4 (by decide)
    have k5 := k 5 (by decide)
    have k6 := k 6 (by decide)
    unfold zt_s7 at h
    omega
  · rintro ⟨e, he, h⟩
    unfold zt_s7
    rcases e with _ | _ | _ | _ | _ | _ | _ | e
    all_goals first | omega | skip
    all_goals (simp only [Nat.zero_add, Nat.reduceAdd] at h; omega)
theorem zt_c_le (e i j : Nat) : zt_c e i j ≤ 1 := by
  unfold zt_c
  split <;> omega
theorem zt_c_sym (e i j : Nat) : zt_c e i j = zt_c e j i := by
  unfold zt_c
  by_cases h : zt_b (zt_tr e) i = zt_b (zt_tr e) j
  · rw [if_pos h, if_pos h.symm]
  · rw [if_neg h, if_neg (fun z => h z.symm)]
theorem zt_c_self (e i : Nat) : zt_c e i i = 0 := if_pos rfl
theorem zt_v_le (n s e : Nat) : zt_v n s e ≤ 2 := by
  unfold zt_v
  split <;> omega
theorem zt_d_sym (l : Nat → Nat) (i j : Nat) : zt_d l i j = zt_d l j i := by
  unfold zt_d zt_s7
  dsimp only
  rw [zt_c_sym 0 i j, zt_c_sym 1 i j, zt_c_sym 2 i j, zt_c_sym 3 i j, zt_c_sym 4 i j, zt_c_sym 5 i j, zt_c_sym 6 i j]
theorem zt_d_self (l : Nat → Nat) (i : Nat) : zt_d l i i = 0 := by
  unfold zt_d zt_s7
  dsimp only
  rw [zt_c_self, zt_c_self, zt_c_self, zt_c_self, zt_c_self, zt_c_self, zt_c_self]
  omega
theorem zt_d_le {l : Nat → Nat} (hl : ∀ e : Nat, e < 7 → l e ≤ 7) (i j : Nat) : zt_d l i j ≤ 49 := zt_s7b (c := 1) hl (fun e _ => zt_c_le e i j)
theorem zt_V_le {l : Nat → Nat} (hl : ∀ e : Nat, e < 7 → l e ≤ 7) (n s : Nat) : zt_V l n s ≤ 98 := zt_s7b (c := 2) hl (fun e _ => zt_v_le n s e)
/-- the splits that the tree gives for the first n points, in order -/
def zt_O (n : Nat) : List Nat := [[], [], [1], [1, 3, 5], [1, 3, 7, 11, 13], [1, 3, 7, 15, 23, 27, 29]].getD n []
/-- for each split two pairs of points that show its index -/
def zt_w (n s : Nat) : Nat := ([[], [], [6], [7, 37, 56], [7, 38, 58, 68, 82, 87, 56], [7, 38, 58, 69, 82, 89, 59, 99, 107, 113, 58, 118, 82, 87, 56]].getD n []).getD (s / 2) 0
def zt_q (n s a b x y : Nat) : Bool := decide (zt_b s a = 1 → zt_b s b = 1 → zt_b s x = 0 → zt_b s y = 0 → ∀ e : Nat, e < 7 → (zt_v n s e : Int) ≤ zt_t e a b x y)
theorem zt_qA : ∀ n, n < 6 → ∀ s, s ∈ zt_O n → ∀ a, a < n → ∀ b, b < n → ∀ x, x < n → ∀ y, y < n → zt_q n s a b x y = true := by decide +kernel
theorem zt_low {n s a b x y : Nat} (hn : n < 6) (hs : s ∈ zt_O n) (ha : a < n) (ba : zt_b s a = 1) (hb : b < n) (bb : zt_b s b = 1) (hx : x < n) (bx : zt_b s x = 0) (hy : y < n) (bby : zt_b s y = 0) : ∀ e : Nat, e < 7 → (zt_v n s e : Int) ≤ zt_t e a b x y :=
  (of_decide_eq_true (zt_qA n hn s hs a ha b hb x hx y hy)) ba bb bx bby
def zt_u1 (n a b x y : Nat) : Bool := decide (a < n ∧ b < n ∧ x < n ∧ y < n ∧ a ≤ b)
def zt_u2 (s a b x y : Nat) : Bool := decide (zt_b s a = 1 ∧ zt_b s b = 1 ∧ zt_b s x = 0 ∧ zt_b s y = 0)
def zt_u3 (n s a b x y : Nat) : Bool := decide (∀ e : Nat, e < 7 → zt_t e a b x y ≤ (zt_v n s e : Int))
def zt_u (n s w : Nat) : Bool := zt_u1 n (w / 125) (w / 25 % 5) (w / 5 % 5) (w % 5) && (zt_u2 s (w / 125) (w / 25 % 5) (w / 5 % 5) (w % 5) && zt_u3 n s (w / 125) (w / 25 % 5) (w / 5 % 5) (w % 5))
theorem zt_uA : ∀ n, n < 6 → ∀ s, s < 2 ^ n - 1 → s % 2 = 1 → zt_u n s (zt_w n s) = true := by decide +kernel
theorem zt_up {n s : Nat} (hn : n < 6) (hs : s < 2 ^ n - 1) (ho : s % 2 = 1) : ∃ a b x y, (a < n ∧ b < n ∧ x < n ∧ y < n ∧ a ≤ b) ∧ (zt_b s a = 1 ∧ zt_b s b = 1 ∧ zt_b s x = 0 ∧ zt_b s y = 0) ∧ ∀ e : Nat, e < 7 → zt_t e a b x y ≤ (zt_v n s e : Int) := by
  have h := zt_uA n hn s hs ho
  unfold zt_u at h
  rw [Bool.and_eq_true, Bool.and_eq_true] at h
  exact ⟨_, _, _, _, of_decide_eq_true h.1, of_decide_eq_true h.2.1, of_decide_eq_true h.2.2⟩
theorem zt_inO : ∀ n, n < 6 → ∀ e : Nat, e < 7 → zt_tr e % 2 ^ n < 2 ^ n - 1 → zt_tr e % 2 ^ n ∈ zt_O n := by decide +kernel
/-- what the index walk says of its answer r -/
def zt_R (D : Nat → Nat → Nat) (s n : Nat) (r : Int) : Prop :=
  (∀ a b x y, a < n → b < n → x < n → y < n → a ≤ b → zt_b s a = 1 → zt_b s b = 1 → zt_b s x = 0 → zt_b s y = 0 → r ≤ zt_TT D a b x y) ∧
  (r = 1000 ∨ ∃ a b x y, a < n ∧ b < n ∧ x < n ∧ y < n ∧ a ≤ b ∧ zt_b s a = 1 ∧ zt_b s b = 1 ∧ zt_b s x = 0 ∧ zt_b s y = 0 ∧ r = zt_TT D a b x y)
theorem zt_Rup {l : Nat → Nat} {n s : Nat} {r : Int} (h2 : 2 ≤ n) (h5 : n < 6) (hs : s < 2 ^ n - 1) (ho : s % 2 = 1) (h : zt_R (zt_d l) s n r) : r ≤ zt_V l n s := by
  obtain ⟨_, _, _, _, ⟨w1, w2, w3, w4, w5⟩, ⟨w6, w7, w8, w9⟩, w10⟩ := zt_up h5 hs ho
  have k := h.1 _ _ _ _ w1 w2 w3 w4 w5 w6 w7 w8 w9
  rw [zt_Tz] at k
  refine Int.le_trans k ?_
  unfold zt_V
  rw [zt_s7z]
  exact zt_z7le w10
theorem zt_Rlow {l : Nat → Nat} {n s : Nat} {r : Int} (hl : ∀ e : Nat, e < 7 → l e ≤ 7) (h2 : 2 ≤ n) (h5 : n < 6) (hs : s ∈ zt_O n) (h : zt_R (zt_d l) s n r) : (zt_V l n s : Int) ≤ r := by
  rcases h.2 with h | ⟨a, b, x, y, ha, hb, hx, hy, hab, ba, bb, bx, byy, h⟩
  · have := zt_V_le hl n s
    omega
  · rw [h, zt_Tz]
    unfold zt_V
    rw [zt_s7z]
    exact zt_z7le (zt_low h5 hs ha ba hb bb hx bx hy byy)
theorem zt_Vpos (l : Nat → Nat) (n s : Nat) : 0 < zt_V l n s ↔ ∃ e, e < 7 ∧ zt_tr e % 2 ^ n = s ∧ 0 < l e := by
  unfold zt_V
  rw [zt_s7pos]
  constructor
  · rintro ⟨e, he, h⟩
    refine ⟨e, he, ?_⟩
    by_cases hc : zt_tr e % 2 ^ n = s
    · exact ⟨hc, Nat.pos_of_mul_pos_right h⟩
    · rw [show zt_v n s e = 0 from if_neg hc] at h
      omega
  · rintro ⟨e, he, hc, h⟩
    refine ⟨e, he, ?_⟩
    rw [show zt_v n s e = 2 from if_pos hc]
    omega
theorem zt_law {l : Nat → Nat} {n s : Nat} {r : Int} (hl : ∀ e : Nat, e < 7 → l e ≤ 7) (h2 : 2 ≤ n) (h5 : n < 6) (hs : s < 2 ^ n - 1) (ho : s % 2 = 1) (h : zt_R (zt_d l) s n r) :
    (r ≤ 0 ∧ zt_V l n s = 0) ∨ (r = zt_V l n s ∧ 0 < zt_V l n s) := by
  have hu := zt_Rup h2 h5 hs ho h
  by_cases h0 : 0 < zt_V l n s
  · obtain ⟨e, he, hc, _⟩ := (zt_Vpos l n s).mp h0
    have hm : s ∈ zt_O n := by
      rw [← hc]
      exact zt_inO n h5 e he (by rw [hc]; exact hs)
    have hw := zt_Rlow hl h2 h5 hm h
    exact Or.inr ⟨by omega, h0⟩
  · exact Or.inl ⟨by omega, by omega⟩
end
section
/-! which lengths are positive: a mask; the lists of edges; the sort -/
def zt_mk (l : Nat → Nat) : Nat := min (l 0) 1 + 2 * min (l 1) 1 + 4 * min (l 2) 1 + 8 * min (l 3) 1 + 16 * min (l 4) 1 + 32 * min (l 5) 1 + 64 * min (l 6) 1
theorem zt_mk_lt (l : Nat → Nat) : zt_mk l < 128 := by
  unfold zt_mk
  omega
theorem zt_mkb (l : Nat → Nat) : ∀ e, e < 7 → zt_b (zt_mk l) e = min (l e) 1 := by
  intro e he
  unfold zt_b zt_mk
  rcases e with _ | _ | _ | _ | _ | _ | _ | e
  all_goals first | (exfalso; omega) | skip
  all_goals (simp only [Nat.zero_add, Nat.reduceAdd, Nat.reducePow]; omega)
def zt_W (m n s : Nat) : Bool := (List.range 7).any (fun e => (zt_tr e % 2 ^ n == s) && (zt_b m e == 1))
theorem zt_WV (l : Nat → Nat) (n s : Nat) : zt_W (zt_mk l) n s = true ↔ 0 < zt_V l n s := by
  rw [zt_Vpos]
  unfold zt_W
  rw [List.any_eq_true]
  constructor
  · rintro ⟨e, he, h⟩
    have he' : e < 7 := List.mem_range.mp he
    rw [Bool.and_eq_true, beq_iff_eq, beq_iff_eq, zt_mkb l e he'] at h
    exact ⟨e, he', h.1, by omega⟩
  · rintro ⟨e, he, hc, h⟩
    refine ⟨e, List.mem_range.mpr he, ?_⟩
    rw [Bool.and_eq_true, beq_iff_eq, beq_iff_eq, zt_mkb l e he]
    exact ⟨hc, by omega⟩
theorem zt_WF {l : Nat → Nat} {n s : Nat} (h : zt_V l n s = 0) : ¬ zt_W (zt_mk l) n s = true := by
  rw [zt_WV]
  omega
def zt_Sm (m n : Nat) : List Nat := (zt_O n).filter (zt_W m n)
def zt_S (l : Nat → Nat) (n : Nat) : List Nat := zt_Sm (zt_mk l) n
def zt_ps (L : List Nat) (x : Nat) : Nat → Nat
  | 0 => 0
  | k + 1 => if L.getD k 0 ≤ x then k + 1 else zt_ps L x k
def zt_put (L : List Nat) (x p : Nat) : List Nat := L.take p ++ x :: L.drop p
def zt_ins (L : List Nat) (x : Nat) : List Nat := zt_put L x (zt_ps L x L.length)
def zt_sort (G : List Nat) : List Nat := G.foldl zt_ins []
def zt_ad (P : Nat → Bool) (G : List Nat) (s : Nat) : List Nat := if P s = true then G ++ [s] else G
def zt_F (P : Nat → Bool) (n : Nat) (S : List Nat) : List Nat := S.foldl (fun G s => zt_ad P (zt_ad P G s) (s + 2 ^ n)) (zt_ad P [] (2 ^ n - 1))
theorem zt_step : ∀ n, n < 5 → ∀ m, m < 128 → zt_sort (zt_F (zt_W m (n + 1)) n (zt_Sm m n)) = zt_Sm m (n + 1) := by decide +kernel
theorem zt_Oin : ∀ n, n < 6 → ∀ s, s ∈ zt_O n → s < 2 ^ n - 1 ∧ s % 2 = 1 ∧ s < 32 := by decide +kernel
theorem zt_Olen : ∀ n, n < 6 → (zt_O n).length ≤ 7 := by decide +kernel
theorem zt_Sin {l : Nat → Nat} {n s : Nat} (hn : n < 6) (h : s ∈ zt_S l n) : s < 2 ^ n - 1 ∧ s % 2 = 1 ∧ s < 32 := zt_Oin n hn s (List.mem_filter.mp h).1
theorem zt_Slen {l : Nat → Nat} {n : Nat} (hn : n < 6) : (zt_S l n).length ≤ 7 := Nat.le_trans (List.length_filter_le _ _) (zt_Olen n hn)
theorem zt_S1 (l : Nat → Nat) : zt_S l 1 = [] := rfl
theorem zt_ps_le (L : List Nat) (x : Nat) : ∀ k, zt_ps L x k ≤ k
  | 0 => Nat.le_refl 0
  | k + 1 => by
    unfold zt_ps
    split
    · exact Nat.le_refl _
    · exact Nat.le_succ_of_le (zt_ps_le L x k)
theorem zt_put_len {L : List Nat} {x p : Nat} (hp : p ≤ L.length) : (zt_put L x p).length = L.length + 1 := by
  unfold zt_put
  rw [List.length_append, List.length_take, List.length_cons, List.length_drop]
  omega
theorem zt_ins_len (L : List Nat) (x : Nat) : (zt_ins L x).length = L.length + 1 := zt_put_len (zt_ps_le L x L.length)
theorem zt_fold_len : ∀ (G L : List Nat), (G.foldl zt_ins L).length = L.length + G.length
  | [], L => rfl
  | x :: G, L => by
    rw [List.foldl_cons, zt_fold_len G, zt_ins_len, List.length_cons]
    omega
theorem zt_sort_len (G : List Nat) : (zt_sort G).length = G.length := by
  unfold zt_sort
  rw [zt_fold_len, List.length_nil, Nat.zero_add]
theorem zt_sort_take {G : List Nat} {k : Nat} (h : k < G.length) : zt_sort (G.take (k + 1)) = zt_ins (zt_sort (G.take k)) (G.getD k 0) := by
  unfold zt_sort
  rw [zt_takeS h, List.foldl_append]
  rfl
/-- places of a list with x put in at p -/
theorem zt_put_get {L : List Nat} {x p j : Nat} (hp : p ≤ L.length) : (zt_put L x p).getD j 0 = if j < p then L.getD j 0 else if j = p then x else L.getD (j - 1) 0 := by
  unfold zt_put
  simp only [List.getD]
  by_cases h1 : j < p
  · rw [if_pos h1, List.getElem?_append_left (by rw [List.length_take]; omega), List.getElem?_take_of_lt h1]
  · rw [if_neg h1, List.getElem?_append_right (by rw [List.length_take]; omega), List.length_take, Nat.min_eq_left hp]
    by_cases h2 : j = p
    · rw [if_pos h2, h2, Nat.sub_self]
      rfl
    · rw [if_neg h2, show j - p = (j - 1 - p) + 1 by omega, List.getElem?_cons_succ, List.getElem?_drop, show p + (j - 1 - p) = j - 1 by omega]
theorem zt_put_ls {V : Nat → Nat} {L : List Nat} {a : Nat → Int32} {x p : Nat} (hp : p ≤ L.length) (h1 : ∀ j, j < p → a j = nI (V (L.getD j 0))) (h2 : ∀ j, p < j → j ≤ L.length → a j = nI (V (L.getD (j - 1) 0))) :
    zt_ls (upd a p (nI (V x))) ((zt_put L x p).map V) := by
  intro j hj
  rw [List.length_map] at hj
  rw [zt_getMap V _ hj, zt_put_get hp]
  rw [zt_put_len hp] at hj
  by_cases e1 : j < p
  · rw [if_pos e1, pk_un (by omega), h1 j e1]
  · rw [if_neg e1]
    by_cases e2 : j = p
    · rw [if_pos e2, e2, pk_us]
    · rw [if_neg e2, pk_un e2, h2 j (by omega) (by omega)]
theorem zt_ad_len (P : Nat → Bool) (G : List Nat) (s : Nat) : (zt_ad P G s).length ≤ G.length + 1 := by
  unfold zt_ad
  split
  · rw [List.length_append]
    exact Nat.le_refl _
  · omega
theorem zt_ad_in {P : Nat → Bool} {G : List Nat} {s : Nat} (h : ∀ g, g ∈ G → g < 32) (hs : s < 32) : ∀ g, g ∈ zt_ad P G s → g < 32 := by
  intro g hg
  unfold zt_ad at hg
  split at hg
  · rcases List.mem_append.mp hg with z | z
    · exact h g z
    · rw [List.mem_singleton.mp z]
      exact hs
  · exact h g hg
/-! the way along the edges -/
def zt_pth (V : Nat → Nat) (i j : Nat) : List Nat → Nat
  | [] => 0
  | s :: t => (if zt_b s i = zt_b s j then 0 else V s) + zt_pth V i j t
def zt_tot (V : Nat → Nat) : List Nat → Nat
  | [] => 0
  | s :: t => V s + zt_tot V t
theorem zt_pth_app (V : Nat → Nat) (i j s : Nat) : ∀ L : List Nat, zt_pth V i j (L ++ [s]) = zt_pth V i j L + (if zt_b s i = zt_b s j then 0 else V s)
  | [] => by
    show _ + zt_pth V i j [] = zt_pth V i j [] + _
    exact Nat.add_comm _ _
  | x :: t => by
    show _ + zt_pth V i j (t ++ [s]) = _ + zt_pth V i j t + _
    rw [zt_pth_app V i j s t, Nat.add_assoc]
theorem zt_tot_app (V : Nat → Nat) (s : Nat) : ∀ L : List Nat, zt_tot V (L ++ [s]) = zt_tot V L + V s
  | [] => by
    show _ + zt_tot V [] = zt_tot V [] + _
    exact Nat.add_comm _ _
  | x :: t => by
    show _ + zt_tot V (t ++ [s]) = _ + zt_tot V t + _
    rw [zt_tot_app V s t, Nat.add_assoc]
theorem zt_pth_filter {V : Nat → Nat} {P : Nat → Bool} {i j : Nat} (h : ∀ s, ¬ P s = true → V s = 0) : ∀ L : List Nat, zt_pth V i j (L.filter P) = zt_pth V i j L
  | [] => rfl
  | x :: t => by
    by_cases hx : P x = true
    · rw [List.filter_cons_of_pos hx]
      show _ + zt_pth V i j (t.filter P) = _ + zt_pth V i j t
      rw [zt_pth_filter h t]
    · rw [List.filter_cons_of_neg hx]
      show zt_pth V i j (t.filter P) = (if zt_b x i = zt_b x j then 0 else V x) + zt_pth V i j t
      rw [zt_pth_filter h t, h x hx, ite_self, Nat.zero_add]
theorem zt_tot_filter {V : Nat → Nat} {P : Nat → Bool} (h : ∀ s, ¬ P s = true → V s = 0) : ∀ L : List Nat, zt_tot V (L.filter P) = zt_tot V L
  | [] => rfl
  | x :: t => by
    by_cases hx : P x = true
    · rw [List.filter_cons_of_pos hx]
      show _ + zt_tot V (t.filter P) = _ + zt_tot V t
      rw [zt_tot_filter h t]
    · rw [List.filter_cons_of_neg hx]
      show zt_tot V (t.filter P) = V x + zt_tot V t
      rw [zt_tot_filter h t, h x hx, Nat.zero_add]
theorem zt_noW {l : Nat → Nat} {n : Nat} (s : Nat) (h : ¬ zt_W (zt_mk l) n s = true) : zt_V l n s = 0 := by
  rw [zt_WV] at h
  omega
theorem zt_v5 : ∀ e, e < 7 → ∀ f, f < 7 → zt_v 5 (zt_tr e) f = if e = f then 2 else 0 := by decide +kernel
theorem zt_V5 (l : Nat → Nat) : zt_V l 5 1 = 2 * l 0 ∧ zt_V l 5 29 = 2 * l 1 ∧ zt_V l 5 27 = 2 * l 2 ∧ zt_V l 5 23 = 2 * l 3 ∧ zt_V l 5 15 = 2 * l 4 ∧ zt_V l 5 3 = 2 * l 5 ∧ zt_V l 5 7 = 2 * l 6 := by
  have k : ∀ s, zt_V l 5 s = l 0 * zt_v 5 s 0 + l 1 * zt_v 5 s 1 + l 2 * zt_v 5 s 2 + l 3 * zt_v 5 s 3 + l 4 * zt_v 5 s 4 + l 5 * zt_v 5 s 5 + l 6 * zt_v 5 s 6 := fun s => rfl
  have h0 : ∀ f, f < 7 → zt_v 5 1 f = if 0 = f then 2 else 0 := zt_v5 0 (by decide)
  have h1 : ∀ f, f < 7 → zt_v 5 29 f = if 1 = f then 2 else 0 := zt_v5 1 (by decide)
  have h2 : ∀ f, f < 7 → zt_v 5 27 f = if 2 = f then 2 else 0 := zt_v5 2 (by decide)
  have h3 : ∀ f, f < 7 → zt_v 5 23 f = if 3 = f then 2 else 0 := zt_v5 3 (by decide)
  have h4 : ∀ f, f < 7 → zt_v 5 15 f = if 4 = f then 2 else 0 := zt_v5 4 (by decide)
  have h5 : ∀ f, f < 7 → zt_v 5 3 f = if 5 = f then 2 else 0 := zt_v5 5 (by decide)
  have h6 : ∀ f, f < 7 → zt_v 5 7 f = if 6 = f then 2 else 0 := zt_v5 6 (by decide)
  refine ⟨?_, ?_, ?_, ?_, ?_, ?_, ?_⟩
  · rw [k, h0 0 (by decide), h0 1 (by decide), h0 2 (by decide), h0 3 (by decide), h0 4 (by decide), h0 5 (by decide), h0 6 (by decide)]; simp; omega
  · rw [k, h1 0 (by decide), h1 1 (by decide), h1 2 (by decide), h1 3 (by decide), h1 4 (by decide), h1 5 (by decide), h1 6 (by decide)]; simp; omega
  · rw [k, h2 0 (by decide), h2 1 (by decide), h2 2 (by decide), h2 3 (by decide), h2 4 (by decide), h2 5 (by decide), h2 6 (by decide)]; simp; omega
  · rw [k, h3 0 (by decide), h3 1 (by decide), h3 2 (by decide), h3 3 (by decide), h3 4 (by decide), h3 5 (by decide), h3 6 (by decide)]; simp; omega
  · rw [k, h4 0 (by decide), h4 1 (by decide), h4 2 (by decide), h4 3 (by decide), h4 4 (by decide), h4 5 (by decide), h4 6 (by decide)]; simp; omega
  · rw [k, h5 0 (by decide), h5 1 (by decide), h5 2 (by decide), h5 3 (by decide), h5 4 (by decide), h5 5 (by decide), h5 6 (by decide)]; simp; omega
  · rw [k, h6 0 (by decide), h6 1 (by decide), h6 2 (by decide), h6 3 (by decide), h6 4 (by decide), h6 5 (by decide), h6 6 (by decide)]; simp; omega
theorem zt_ite (a b x : Nat) : (if a = b then 0 else 2 * x) = 2 * (x * (if a = b then 0 else 1)) := by
  split <;> omega
theorem zt_path (l : Nat → Nat) (i j : Nat) : zt_pth (zt_V l 5) i j (zt_S l 5) = 2 * zt_d l i j := by
  unfold zt_S zt_Sm
  rw [zt_pth_filter zt_noW]
  obtain ⟨h0, h1, h2, h3, h4, h5, h6⟩ := zt_V5 l
  have e : zt_d l i j = l 0 * (if zt_b 1 i = zt_b 1 j then 0 else 1) + l 1 * (if zt_b 29 i = zt_b 29 j then 0 else 1) + l 2 * (if zt_b 27 i = zt_b 27 j then 0 else 1) + l 3 * (if zt_b 23 i = zt_b 23 j then 0 else 1) + l 4 * (if zt_b 15 i = zt_b 15 j then 0 else 1) + l 5 * (if zt_b 3 i = zt_b 3 j then 0 else 1) + l 6 * (if zt_b 7 i = zt_b 7 j then 0 else 1) := rfl
  show zt_pth (zt_V l 5) i j [1, 3, 7, 15, 23, 27, 29] = _
  rw [e]
  simp only [zt_pth]
  rw [h0, h1, h2, h3, h4, h5, h6, zt_ite, zt_ite, zt_ite, zt_ite, zt_ite, zt_ite, zt_ite]
  omega
theorem zt_total (l : Nat → Nat) : zt_tot (zt_V l 5) (zt_S l 5) = 2 * l 0 + 2 * l 1 + 2 * l 2 + 2 * l 3 + 2 * l 4 + 2 * l 5 + 2 * l 6 := by
  unfold zt_S zt_Sm
  rw [zt_tot_filter zt_noW]
  obtain ⟨h0, h1, h2, h3, h4, h5, h6⟩ := zt_V5 l
  show zt_tot (zt_V l 5) [1, 3, 7, 15, 23, 27, 29] = _
  simp only [zt_tot]
  rw [h0, h1, h2, h3, h4, h5, h6]
  omega
theorem zt_lenm : ∀ m, m < 128 → (zt_Sm m 5).length = zt_b m 0 + zt_b m 1 + zt_b m 2 + zt_b m 3 + zt_b m 4 + zt_b m 5 + zt_b m 6 := by decide +kernel
theorem zt_lenS (l : Nat → Nat) : (zt_S l 5).length = min (l 0) 1 + min (l 1) 1 + min (l 2) 1 + min (l 3) 1 + min (l 4) 1 + min (l 5) 1 + min (l 6) 1 := by
  unfold zt_S
  rw [zt_lenm _ (zt_mk_lt l), zt_mkb l 0 (by decide), zt_mkb l 1 (by decide), zt_mkb l 2 (by decide), zt_mkb l 3 (by decide), zt_mkb l 4 (by decide), zt_mkb l 5 (by decide), zt_mkb l 6 (by decide)]
theorem zt_ord : ∀ m, m < 128 → 1 < (zt_Sm m 5).length → (zt_Sm m 5).getD 0 0 < (zt_Sm m 5).getD 1 0 := by decide +kernel
end
section
/-! get, leastFor, indexOf -/
section
variable {c kn fo fr : Int32} {a1 a2 a3 a4 a5 a6 : Nat → Int32}
theorem zt_get {post : Int32 → Prop} {i j : Nat} (hi : 7 * i + j < 49) (H : post (a1 (7 * i + j))) : wpX_get post (c, kn, fo, fr, a1, a2, a3, a4, a5, a6) (nI i) (nI j) := by
  show vp_in ((7 * nI i) + nI j) 49 ∧ post (a1 ((7 * nI i) + nI j).toNatClampNeg)
  rw [zt_ix, nI_clamp (by omega)]
  exact ⟨vp_in_nI hi (by decide), H⟩
/-- a least value over the first k places that count -/
def zt_MI (P : Nat → Prop) (f : Nat → Int) (k : Nat) (r : Int) : Prop := -200 ≤ r ∧ r ≤ 1000 ∧ (∀ m, m < k → P m → r ≤ f m) ∧ (r = 1000 ∨ ∃ m, m < k ∧ P m ∧ r = f m)
theorem zt_MI0 (P : Nat → Prop) (f : Nat → Int) : zt_MI P f 0 1000 := ⟨by decide, by decide, fun m h => absurd h (Nat.not_lt_zero m), Or.inl rfl⟩
theorem zt_MIs {P : Nat → Prop} {f : Nat → Int} {k : Nat} {r : Int} (h : zt_MI P f k r) (hp : P k → r ≤ f k) : zt_MI P f (k + 1) r := by
  obtain ⟨h1, h2, h3, h4⟩ := h
  refine ⟨h1, h2, fun m hm pm => ?_, ?_⟩
  · by_cases e : m = k
    · subst e
      exact hp pm
    · exact h3 m (by omega) pm
  · rcases h4 with h4 | ⟨m, hm, pm, h4⟩
    · exact Or.inl h4
    · exact Or.inr ⟨m, by omega, pm, h4⟩
theorem zt_MIn {P : Nat → Prop} {f : Nat → Int} {k : Nat} {r : Int} (h : zt_MI P f k r) (hp : P k) (hf : ¬ r ≤ f k) (hb : -200 ≤ f k) : zt_MI P f (k + 1) (f k) := by
  obtain ⟨h1, h2, h3, h4⟩ := h
  refine ⟨hb, by omega, fun m hm pm => ?_, Or.inr ⟨k, by omega, hp, rfl⟩⟩
  by_cases e : m = k
  · subst e
    exact Int.le_refl _
  · have := h3 m (by omega) pm
    omega
theorem zt_least {post : Int32 → Prop} {D : Nat → Nat → Nat} {s n a b : Nat} (hs : s < 32) (hn0 : 0 < n) (hn : n ≤ 5) (ha : a < n) (hb : b < n)
    (hA : ∀ i j, i < n → j < n → a1 (7 * i + j) = nI (D i j)) (hD : ∀ i j, D i j ≤ 60)
    (H : ∀ r : Int, zt_MI (fun m => zt_b s (m / n) = 0 ∧ zt_b s (m % n) = 0) (fun m => zt_TT D a b (m / n) (m % n)) (n * n) r → post (zt_i r)) :
    wpX_leastFor post (c, kn, fo, fr, a1, a2, a3, a4, a5, a6) (nI s) (nI n) (nI a) (nI b) := by
  have hnn : n * n ≤ 25 := Nat.mul_le_mul hn hn
  show ∃ fu8 : Nat, wX_leastFor_8 post (nI s) (nI n) (nI a) (nI b) c kn fo fr a1 a2 a3 a4 a5 a6 fu8 1000 (nI 0)
  rw [zt_1000]
  refine pk_loop (σ := Int) (fun k i r => wX_leastFor_8 post (nI s) (nI n) (nI a) (nI b) c kn fo fr a1 a2 a3 a4 a5 a6 k (zt_i r) (nI i)) (zt_MI (fun m => zt_b s (m / n) = 0 ∧ zt_b s (m % n) = 0) (fun m => zt_TT D a b (m / n) (m % n))) (n * n) 0 1000 (Nat.zero_le _) (zt_MI0 _ _) ?_ ?_
  · intro k r h
    exact pk_le (n * n) (n * n) (fun _ => H r h) (fun z => absurd z (by omega)) (pk_mul n n)
  · intro k i r hi h hw
    have hx : i / n < n := Nat.div_lt_of_lt_mul hi
    have hy : i % n < n := Nat.mod_lt _ hn0
    have h0 : ¬ nI n = 0 := nI_ne0 hn0 (by omega)
    refine pk_le (n * n) i (fun z => absurd z (by omega)) (fun _ => ⟨h0, nm_r (pk_div (by omega) hn0 (by omega)) ⟨h0, nm_r (pk_rem (by omega) hn0 (by omega)) ?_⟩⟩) (pk_mul n n)
    refine ek_if (zt_bit0 hs (by omega)) (fun p1 => ek_if (zt_bit0 hs (by omega)) (fun p2 => ?_) (fun p2 => ?_)) (fun p1 => ?_)
    · refine zt_get (by omega) (zt_get (by omega) (zt_get (by omega) (zt_get (by omega) ?_)))
      rw [hA a _ ha hx, hA b _ hb hy, hA a b ha hb, hA _ _ hx hy, zt_4]
      have d1 := hD a (i / n)
      have d2 := hD b (i % n)
      have d3 := hD a b
      have d4 := hD (i / n) (i % n)
      have l1 := h.1
      have l2 := h.2.1
      refine nm_e (ek_if (zt_le (by omega) (by omega) (by omega) (by omega)) (fun q => ?_) (fun q => ?_))
      · exact nm_r (nI_1 i) (hw r (zt_MIs h (fun _ => q)))
      · exact nm_r (nI_1 i) (hw _ (zt_MIn h ⟨p1, p2⟩ q (show (-200 : Int) ≤ (D a (i / n) : Int) + D b (i % n) - D a b - D (i / n) (i % n) by omega)))
    · exact nm_r (nI_1 i) (hw r (zt_MIs h (fun q => absurd q.2 p2)))
    · exact nm_r (nI_1 i) (hw r (zt_MIs h (fun q => absurd q.1 p1)))
/-- a least value over pairs of places -/
def zt_MO (P Q : Nat → Prop) (f : Nat → Nat → Int) (N k : Nat) (r : Int) : Prop := -200 ≤ r ∧ r ≤ 1000 ∧ (∀ m, m < k → P m → ∀ q, q < N → Q q → r ≤ f m q) ∧ (r = 1000 ∨ ∃ m, m < k ∧ P m ∧ ∃ q, q < N ∧ Q q ∧ r = f m q)
theorem zt_MO0 (P Q : Nat → Prop) (f : Nat → Nat → Int) (N : Nat) : zt_MO P Q f N 0 1000 := ⟨by decide, by decide, fun m h => absurd h (Nat.not_lt_zero m), Or.inl rfl⟩
theorem zt_MOs {P Q : Nat → Prop} {f : Nat → Nat → Int} {N k : Nat} {r : Int} (h : zt_MO P Q f N k r) (hp : P k → ∀ q, q < N → Q q → r ≤ f k q) : zt_MO P Q f N (k + 1) r := by
  obtain ⟨h1, h2, h3, h4⟩ := h
  refine ⟨h1, h2, fun m hm pm => ?_, ?_⟩
  · by_cases e : m = k
    · subst e
      exact hp pm
    · exact h3 m (by omega) pm
  · rcases h4 with h4 | ⟨m, hm, pm, h4⟩
    · exact Or.inl h4
    · exact Or.inr ⟨m, by omega, pm, h4⟩
theorem zt_MOn {P Q : Nat → Prop} {f : Nat → Nat → Int} {N k : Nat} {r r' : Int} (h : zt_MO P Q f N k r) (hp : P k) (h' : zt_MI Q (f k) N r') (hf : ¬ r ≤ r') : zt_MO P Q f N (k + 1) r' := by
  obtain ⟨h1, h2, h3, h4⟩ := h
  obtain ⟨g1, g2, g3, g4⟩ := h'
  refine ⟨g1, g2, fun m hm pm q hq qq => ?_, ?_⟩
  · by_cases e : m = k
    · subst e
      exact g3 q hq qq
    · have := h3 m (by omega) pm q hq qq
      omega
  · rcases g4 with g4 | ⟨q, hq, qq, g4⟩
    · exact Or.inl g4
    · exact Or.inr ⟨k, by omega, hp, q, hq, qq, g4⟩
theorem zt_dm {n x y : Nat} (hy : y < n) : (x * n + y) / n = x ∧ (x * n + y) % n = y := by
  have h0 : 0 < n := by omega
  constructor
  · rw [Nat.add_comm, Nat.add_mul_div_right _ _ h0, Nat.div_eq_of_lt hy, Nat.zero_add]
  · rw [Nat.add_comm, Nat.add_mul_mod_self_right, Nat.mod_eq_of_lt hy]
theorem zt_dml {n x y : Nat} (hx : x < n) (hy : y < n) : x * n + y < n * n := by
  have : (x + 1) * n ≤ n * n := Nat.mul_le_mul_right n hx
  rw [Nat.add_mul, Nat.one_mul] at this
  omega
theorem zt_indexOf {post : Int32 → Prop} {D : Nat → Nat → Nat} {s n : Nat} (hs : s < 32) (hn0 : 0 < n) (hn : n ≤ 5)
    (hA : ∀ i j, i < n → j < n → a1 (7 * i + j) = nI (D i j)) (hD : ∀ i j, D i j ≤ 60)
    (H : ∀ r : Int, -200 ≤ r → r ≤ 1000 → zt_R D s n r → post (zt_i r)) :
    wpX_indexOf post (c, kn, fo, fr, a1, a2, a3, a4, a5, a6) (nI s) (nI n) := by
  have hnn : n * n ≤ 25 := Nat.mul_le_mul hn hn
  show ∃ fu7 : Nat, wX_indexOf_7 post (nI s) (nI n) c kn fo fr a1 a2 a3 a4 a5 a6 fu7 1000 (nI 0)
  rw [zt_1000]
  refine pk_loop (σ := Int) (fun k i r => wX_indexOf_7 post (nI s) (nI n) c kn fo fr a1 a2 a3 a4 a5 a6 k (zt_i r) (nI i)) (zt_MO (fun m => m / n ≤ m % n ∧ zt_b s (m / n) = 1 ∧ zt_b s (m % n) = 1) (fun q => zt_b s (q / n) = 0 ∧ zt_b s (q % n) = 0) (fun m q => zt_TT D (m / n) (m % n) (q / n) (q % n)) (n * n)) (n * n) 0 1000 (Nat.zero_le _) (zt_MO0 _ _ _ _) ?_ ?_
  · intro k r h
    refine pk_le (n * n) (n * n) (fun _ => H r h.1 h.2.1 ⟨?_, ?_⟩) (fun z => absurd z (by omega)) (pk_mul n n)
    · intro a b x y ha hb hx hy hab ba bb bx bby
      have e1 := zt_dm (x := a) hb
      have e2 := zt_dm (x := x) hy
      have t := h.2.2.1 (a * n + b) (zt_dml ha hb) (by dsimp only; rw [e1.1, e1.2]; exact ⟨hab, ba, bb⟩) (x * n + y) (zt_dml hx hy) (by dsimp only; rw [e2.1, e2.2]; exact ⟨bx, bby⟩)
      dsimp only at t
      rw [e1.1, e1.2, e2.1, e2.2] at t
      exact t
    · rcases h.2.2.2 with e | ⟨m, hm, pm, q, hq, pq, e⟩
      · exact Or.inl e
      · exact Or.inr ⟨m / n, m % n, q / n, q % n, Nat.div_lt_of_lt_mul hm, Nat.mod_lt _ hn0, Nat.div_lt_of_lt_mul hq, Nat.mod_lt _ hn0, pm.1, pm.2.1, pm.2.2, pq.1, pq.2, e⟩
  · intro k i r hi h hw
    have hx : i / n < n := Nat.div_lt_of_lt_mul hi
    have hy : i % n < n := Nat.mod_lt _ hn0
    have h0 : ¬ nI n = 0 := nI_ne0 hn0 (by omega)
    refine pk_le (n * n) i (fun z => absurd z (by omega)) (fun _ => ⟨h0, nm_r (pk_div (by omega) hn0 (by omega)) ⟨h0, nm_r (pk_rem (by omega) hn0 (by omega)) ?_⟩⟩) (pk_mul n n)
    refine pk_lt (i % n) (i / n) (fun p0 => ?_) (fun p0 => ek_if (zt_bit1 hs (by omega)) (fun p1 => ek_if (zt_bit1 hs (by omega)) (fun p2 => ?_) (fun p2 => ?_)) (fun p1 => ?_))
    · exact nm_r (nI_1 i) (hw r (zt_MOs h (fun q => absurd q.1 (by omega))))
    · refine zt_least hs hn0 hn hx hy hA hD (fun r' h' => ?_)
      have l1 := h.1
      have l2 := h.2.1
      have l3 := h'.1
      have l4 := h'.2.1
      refine ek_if (zt_le (by omega) (by omega) (by omega) (by omega)) (fun q => ?_) (fun q => ?_)
      · refine nm_r (nI_1 i) (hw r (zt_MOs h (fun _ m hm qm => Int.le_trans q (h'.2.2.1 m hm qm))))
      · exact nm_r (nI_1 i) (hw r' (zt_MOn h ⟨p0, p1, p2⟩ h' q))
    · exact nm_r (nI_1 i) (hw r (zt_MOs h (fun q => absurd q.2.2 p2)))
    · exact nm_r (nI_1 i) (hw r (zt_MOs h (fun q => absurd q.2.1 p1)))
end
end
section
/-! tryEdge, sortFresh, addPoint, find -/
section
variable {c kn fo fr : Int32} {a1 a2 a3 a4 a5 a6 : Nat → Int32}
/-- the array of distances holds the tree's for the first n points -/
def zt_M (l : Nat → Nat) (n : Nat) (a1 : Nat → Int32) : Prop := ∀ i j, i < n → j < n → a1 (7 * i + j) = nI (zt_d l i j)
theorem zt_Mle {l : Nat → Nat} {n m : Nat} {a1 : Nat → Int32} (h : zt_M l m a1) (hn : n ≤ m) : zt_M l n a1 := fun i j hi hj => h i j (by omega) (by omega)
theorem zt_p32 : ∀ n, n < 6 → 2 ^ n ≤ 32 := by decide
theorem zt_tryEdge {post : St2 → Prop} {l : Nat → Nat} {s n : Nat} {G : List Nat} (hl : ∀ e, e < 7 → l e ≤ 7) (h2 : 2 ≤ n) (h5 : n < 6) (hs : s < 2 ^ n - 1) (ho : s % 2 = 1)
    (hM : zt_M l n a1) (hG : G.length < 32) (k4 : zt_ls a4 G) (k5 : zt_ls a5 (G.map (zt_V l n)))
    (H : ∀ a4' a5', zt_ls a4' (zt_ad (zt_W (zt_mk l) n) G s) → zt_ls a5' ((zt_ad (zt_W (zt_mk l) n) G s).map (zt_V l n)) → post (c, kn, fo, nI (zt_ad (zt_W (zt_mk l) n) G s).length, a1, a2, a3, a4', a5', a6)) :
    wpX_tryEdge post (c, kn, fo, nI G.length, a1, a2, a3, a4, a5, a6) (nI s) (nI n) := by
  have hp := zt_p32 n h5
  have hs32 : s < 32 := by omega
  refine pk_eq s (2 ^ n - 1) (fun z => absurd z (by omega)) (fun _ => ?_) rfl (zt_full n h5)
  refine zt_indexOf hs32 (by omega) (by omega) hM (fun i j => Nat.le_trans (zt_d_le hl i j) (by decide)) (fun r r1 r2 hr => ?_)
  rcases zt_law hl h2 h5 hs ho hr with ⟨q, q0⟩ | ⟨q, q0⟩
  · refine ek_if (zt_le0 (by omega) (by omega)) (fun _ => ?_) (fun z => absurd q z)
    have e : zt_ad (zt_W (zt_mk l) n) G s = G := if_neg (zt_WF q0)
    rw [e] at H
    exact H a4 a5 k4 k5
  · have e : zt_ad (zt_W (zt_mk l) n) G s = G ++ [s] := if_pos ((zt_WV l n s).mpr q0)
    rw [e] at H
    have hc : (nI G.length).toNatClampNeg = G.length := nI_clamp (by omega)
    refine ek_if (zt_le0 (by omega) (by omega)) (fun z => absurd z (by omega)) (fun _ => pk_le 32 G.length (fun z => absurd z (by omega)) (fun _ => ⟨pk_in _ 32 hG, nm_r (e' := upd a4 G.length (nI s)) (by rw [hc, zt_byte s (by omega)]) ⟨pk_in _ 32 hG, nm_r (e' := upd a5 G.length (nI (zt_V l n s))) (by rw [hc, q, ← zt_n]) (nm_r (e' := nI (G ++ [s]).length) (by rw [nI_1, List.length_append]; rfl) ?_)⟩⟩))
    refine H _ _ (zt_lsApp k4 rfl) ?_
    rw [List.map_append]
    exact zt_lsApp k5 (by rw [List.length_map])
theorem zt_so75 {post : St2 → Prop} {J7 : Int32 → Int32 → (Nat → Int32) → (Nat → Int32) → (Nat → Int32) → (Nat → Int32) → (Nat → Int32) → (Nat → Int32) → Prop} {G L : List Nat} {V : Nat → Nat} {k p : Nat}
    (hk : k < G.length) (hG : G.length < 32) (hb : ∀ g, g ∈ G → g < 32) (k4 : zt_ls a4 G) (k5 : zt_ls a5 (G.map V)) (hL : L.length = k) (hp : p ≤ k)
    (h1 : ∀ j, j < p → a2 j = nI (L.getD j 0)) (h2 : ∀ j, p < j → j ≤ k → a2 j = nI (L.getD (j - 1) 0))
    (h3 : ∀ j, j < p → a3 j = nI (V (L.getD j 0))) (h4 : ∀ j, p < j → j ≤ k → a3 j = nI (V (L.getD (j - 1) 0)))
    (H : ∀ a2' a3', zt_ls a2' (zt_put L (G.getD k 0) p) → zt_ls a3' ((zt_put L (G.getD k 0) p).map V) → J7 (nI (k + 1)) (nI (k + 1)) a1 a2' a3' a4 a5 a6) :
    wX_sortFresh_75 post J7 (nI k) (nI p) c kn (nI k) fr a1 a2 a3 a4 a5 a6 := by
  have ck : (nI k).toNatClampNeg = k := nI_clamp (by omega)
  have cp : (nI p).toNatClampNeg = p := nI_clamp (by omega)
  have hx := hb _ (zt_getMem hk)
  unfold wX_sortFresh_75
  rw [ck, cp, k4 k hk, zt_lsM k5 hk, zt_nar (by omega)]
  refine ⟨pk_in k 32 (by omega), pk_in p 32 (by omega), nm_e ⟨pk_in k 32 (by omega), pk_in p 32 (by omega), nm_e (nm_r (nI_1 k) (nm_r (nI_1 k) (H _ _ ?_ ?_)))⟩⟩
  · have t := zt_put_ls (V := id) (x := G.getD k 0) (by omega : p ≤ L.length) h1 (by rw [hL]; exact h2)
    rw [List.map_id] at t
    exact t
  · exact zt_put_ls (by omega) h3 (by rw [hL]; exact h4)
theorem zt_so20 {post : St2 → Prop} {J7 : Int32 → Int32 → (Nat → Int32) → (Nat → Int32) → (Nat → Int32) → (Nat → Int32) → (Nat → Int32) → (Nat → Int32) → Prop} {G L : List Nat} {V : Nat → Nat} {k : Nat}
    (hk : k < G.length) (hG : G.length < 32) (hb : ∀ g, g ∈ G → g < 32) (k4 : zt_ls a4 G) (k5 : zt_ls a5 (G.map V)) (hL : L.length = k) (hLb : ∀ j, j < k → L.getD j 0 < 32) : ∀ (p : Nat) (a2 a3 : Nat → Int32), p ≤ k →
    (∀ j, j < p → a2 j = nI (L.getD j 0)) → (∀ j, p < j → j ≤ k → a2 j = nI (L.getD (j - 1) 0)) →
    (∀ j, j < p → a3 j = nI (V (L.getD j 0))) → (∀ j, p < j → j ≤ k → a3 j = nI (V (L.getD (j - 1) 0))) →
    (∀ a2' a3', zt_ls a2' (zt_put L (G.getD k 0) (zt_ps L (G.getD k 0) p)) → zt_ls a3' ((zt_put L (G.getD k 0) (zt_ps L (G.getD k 0) p)).map V) → J7 (nI (k + 1)) (nI (k + 1)) a1 a2' a3' a4 a5 a6) →
    wX_sortFresh_20 post J7 (nI k) c kn (nI k) fr (p + 1) (nI p) a1 a2 a3 a4 a5 a6 := by
  intro p
  induction p with
  | zero =>
    intro a2 a3 hp h1 h2 h3 h4 H
    exact pk_le 0 0 (fun _ => zt_so75 hk hG hb k4 k5 hL hp h1 h2 h3 h4 H) (fun z => absurd z (by omega))
  | succ p ih =>
    intro a2 a3 hp h1 h2 h3 h4 H
    have ck : (nI k).toNatClampNeg = k := nI_clamp (by omega)
    have cp : (nI p).toNatClampNeg = p := nI_clamp (by omega)
    have cp1 : (nI (p + 1)).toNatClampNeg = p + 1 := nI_clamp (by omega)
    have hx := hb _ (zt_getMem hk)
    have hy := hLb p (by omega)
    have key : a2 p ≤ a4 k ↔ L.getD p 0 ≤ G.getD k 0 := by
      rw [h1 p (by omega), k4 k hk]
      exact nI_leI (by omega) (by omega)
    refine pk_le (p + 1) 0 (fun z => absurd z (by omega)) (fun _ => ?_)
    rw [nI_pred, ck, cp, cp1]
    refine ⟨pk_in p 32 (by omega), pk_in k 32 (by omega), ek_if key (fun q => ?_) (fun q => ?_)⟩
    · rw [show zt_ps L (G.getD k 0) (p + 1) = p + 1 from if_pos q] at H
      exact zt_so75 hk hG hb k4 k5 hL hp h1 h2 h3 h4 H
    · rw [show zt_ps L (G.getD k 0) (p + 1) = zt_ps L (G.getD k 0) p from if_neg q] at H
      refine ⟨pk_in p 32 (by omega), pk_in (p + 1) 32 (by omega), nm_e ⟨pk_in p 32 (by omega), pk_in (p + 1) 32 (by omega), nm_e (nm_r (pk_m1 p) ?_)⟩⟩
      rw [h1 p (by omega), h3 p (by omega), zt_nar (by omega)]
      refine ih _ _ (by omega) (fun j hj => ?_) (fun j hj hj' => ?_) (fun j hj => ?_) (fun j hj hj' => ?_) H
      · rw [pk_un (by omega), h1 j (by omega)]
      · by_cases e : j = p + 1
        · rw [e, pk_us]
          rfl
        · rw [pk_un e, h2 j (by omega) hj']
      · rw [pk_un (by omega), h3 j (by omega)]
      · by_cases e : j = p + 1
        · rw [e, pk_us]
          rfl
        · rw [pk_un e, h4 j (by omega) hj']
theorem zt_put_b {L : List Nat} {x p : Nat} (hp : p ≤ L.length) (h : ∀ j, j < L.length → L.getD j 0 < 32) (hx : x < 32) : ∀ j, j < L.length + 1 → (zt_put L x p).getD j 0 < 32 := by
  intro j hj
  rw [zt_put_get hp]
  split
  · exact h j (by omega)
  · split
    · exact hx
    · exact h (j - 1) (by omega)
theorem zt_sort_b {G : List Nat} (hb : ∀ g, g ∈ G → g < 32) : ∀ k, k ≤ G.length → ∀ j, j < k → (zt_sort (G.take k)).getD j 0 < 32
  | 0, _ => fun j hj => absurd hj (Nat.not_lt_zero j)
  | k + 1, hk => by
    have ih := zt_sort_b hb k (by omega)
    have hl : (zt_sort (G.take k)).length = k := by
      rw [zt_sort_len, List.length_take]
      omega
    rw [zt_sort_take (by omega)]
    have t := zt_put_b (p := zt_ps (zt_sort (G.take k)) (G.getD k 0) (zt_sort (G.take k)).length) (zt_ps_le _ _ _) (by rw [hl]; exact ih) (hb _ (zt_getMem (by omega : k < G.length)))
    rw [hl] at t
    unfold zt_ins
    rw [hl]
    exact t
theorem zt_sortFresh {post : St2 → Prop} {G : List Nat} {V : Nat → Nat} (hG : G.length < 32) (hb : ∀ g, g ∈ G → g < 32) (k4 : zt_ls a4 G) (k5 : zt_ls a5 (G.map V))
    (H : ∀ a2' a3', zt_ls a2' (zt_sort G) → zt_ls a3' ((zt_sort G).map V) → post (c, kn, nI G.length, nI G.length, a1, a2', a3', a4, a5, a6)) :
    wpX_sortFresh post (c, kn, fo, nI G.length, a1, a2, a3, a4, a5, a6) := by
  show ∃ fu7 : Nat, wX_sortFresh_7 post c kn (nI G.length) fu7 (nI 0) (nI 0) a1 a2 a3 a4 a5 a6
  refine pk_loop (σ := (Nat → Int32) × (Nat → Int32)) (fun n i s => wX_sortFresh_7 post c kn (nI G.length) n (nI i) (nI i) a1 s.1 s.2 a4 a5 a6) (fun i s => zt_ls s.1 (zt_sort (G.take i)) ∧ zt_ls s.2 ((zt_sort (G.take i)).map V)) G.length 0 (a2, a3) (Nat.zero_le _) ⟨zt_ls0 _, zt_ls0 _⟩ ?_ ?_
  · intro n s h
    rw [List.take_length] at h
    exact pk_le G.length G.length (fun _ => H s.1 s.2 h.1 h.2) (fun z => absurd z (by omega))
  · intro n i s hi h hw
    have hl : (zt_sort (G.take i)).length = i := by
      rw [zt_sort_len, List.length_take]
      omega
    refine pk_le G.length i (fun z => absurd z (by omega)) (fun _ => ⟨i + 1, zt_so20 hi hG hb k4 k5 hl (zt_sort_b hb i (by omega)) i s.1 s.2 (Nat.le_refl i) (fun j hj => h.1 j (by omega)) (fun j hj hj' => absurd hj (by omega)) (fun j hj => zt_lsM h.2 (by omega)) (fun j hj hj' => absurd hj (by omega)) (fun a2' a3' q2 q3 => hw (a2', a3') ?_)⟩)
    rw [zt_sort_take hi]
    unfold zt_ins
    rw [hl]
    exact ⟨q2, q3⟩
theorem zt_addPoint {post : St2 → Prop} {l : Nat → Nat} {n : Nat} (hl : ∀ e, e < 7 → l e ≤ 7) (h1 : 1 ≤ n) (h5 : n < 5) (hM : zt_M l (n + 1) a1) (k2 : zt_ls a2 (zt_S l n))
    (H : ∀ fr' a2' a3' a4' a5', zt_ls a2' (zt_S l (n + 1)) → zt_ls a3' ((zt_S l (n + 1)).map (zt_V l (n + 1))) → post (c, kn, nI (zt_S l (n + 1)).length, fr', a1, a2', a3', a4', a5', a6)) :
    wpX_addPoint post (c, kn, nI (zt_S l n).length, fr, a1, a2, a3, a4, a5, a6) (nI n) := by
  have hp := zt_p32 (n + 1) (by omega)
  have hp2 : 2 ^ (n + 1) = 2 * 2 ^ n := by rw [Nat.pow_succ, Nat.mul_comm]
  have hp1 : 2 ^ 1 ≤ 2 ^ n := Nat.pow_le_pow_right (by decide) h1
  have hev : 2 ^ n % 2 = 0 := by
    obtain ⟨m, rfl⟩ : ∃ m, n = m + 1 := ⟨n - 1, by omega⟩
    rw [Nat.pow_succ]
    omega
  have hS := zt_Slen (l := l) (n := n) (by omega)
  unfold wpX_addPoint
  rw [zt_full n (by omega), nI_1]
  refine zt_tryEdge (G := []) hl (by omega) (by omega) (by omega) (by omega) hM (by decide) (zt_ls0 _) (zt_ls0 _) (fun b4 b5 q4 q5 => ?_)
  show ∃ fu19 : Nat, wX_addPoint_19 post (nI n) fu19 (nI 0) c kn (nI (zt_S l n).length) (nI (zt_ad (zt_W (zt_mk l) (n + 1)) [] (2 ^ n - 1)).length) a1 a2 a3 b4 b5 a6
  refine pk_loop (σ := List Nat × (Nat → Int32) × (Nat → Int32)) (fun k i s => wX_addPoint_19 post (nI n) k (nI i) c kn (nI (zt_S l n).length) (nI s.1.length) a1 a2 a3 s.2.1 s.2.2 a6)
    (fun i s => s.1 = zt_F (zt_W (zt_mk l) (n + 1)) n ((zt_S l n).take i) ∧ s.1.length ≤ 1 + 2 * i ∧ (∀ g, g ∈ s.1 → g < 32) ∧ zt_ls s.2.1 s.1 ∧ zt_ls s.2.2 (s.1.map (zt_V l (n + 1)))) (zt_S l n).length 0 (zt_ad (zt_W (zt_mk l) (n + 1)) [] (2 ^ n - 1), b4, b5) (Nat.zero_le _)
    ⟨rfl, zt_ad_len _ [] _, zt_ad_in (fun g hg => absurd hg List.not_mem_nil) (by omega), q4, q5⟩ ?_ ?_
  · intro k s h
    obtain ⟨e1, e2, e3, e4, e5⟩ := h
    rw [List.take_length] at e1
    have es : zt_sort s.1 = zt_S l (n + 1) := by
      rw [e1]
      exact zt_step n h5 _ (zt_mk_lt l)
    have el : s.1.length = (zt_S l (n + 1)).length := by rw [← es, zt_sort_len]
    refine pk_le (zt_S l n).length (zt_S l n).length (fun _ => zt_sortFresh (V := zt_V l (n + 1)) (by omega) e3 e4 e5 (fun b2 b3 q2 q3 => ?_)) (fun z => absurd z (by omega))
    rw [es] at q2 q3
    rw [el]
    exact H _ _ _ _ _ q2 q3
  · intro k i s hi h hw
    obtain ⟨e1, e2, e3, e4, e5⟩ := h
    have hm := zt_Sin (n := n) (by omega) (zt_getMem hi)
    have hci : (nI i).toNatClampNeg = i := nI_clamp (by omega)
    refine pk_le (zt_S l n).length i (fun z => absurd z (by omega)) (fun _ => ⟨pk_in i 32 (by omega), ?_⟩)
    rw [hci, k2 i hi, nI_1 n]
    refine zt_tryEdge hl (by omega) (by omega) (by omega) hm.2.1 hM (by omega) e4 e5 (fun c4 c5 r4 r5 => ?_)
    have g1 := zt_ad_len (zt_W (zt_mk l) (n + 1)) s.1 ((zt_S l n).getD i 0)
    have g3 := zt_ad_in (P := zt_W (zt_mk l) (n + 1)) e3 hm.2.2
    refine And.intro (pk_in i 32 (by omega)) ?_
    dsimp only
    rw [k2 i hi, zt_or n h5 _ hm.2.2 (by omega)]
    refine zt_tryEdge hl (by omega) (by omega) (by omega) (by omega) hM (by omega) r4 r5 (fun d4 d5 t4 t5 => ?_)
    refine nm_r (nI_1 i) (hw (zt_ad (zt_W (zt_mk l) (n + 1)) (zt_ad (zt_W (zt_mk l) (n + 1)) s.1 ((zt_S l n).getD i 0)) ((zt_S l n).getD i 0 + 2 ^ n), d4, d5) ⟨?_, ?_, zt_ad_in g3 (by omega), t4, t5⟩)
    · rw [zt_takeS hi, e1]
      unfold zt_F
      rw [List.foldl_append]
      rfl
    · have g2 := zt_ad_len (zt_W (zt_mk l) (n + 1)) (zt_ad (zt_W (zt_mk l) (n + 1)) s.1 ((zt_S l n).getD i 0)) ((zt_S l n).getD i 0 + 2 ^ n)
      dsimp only
      omega
/-- the edges are known -/
def zt_G (l : Nat → Nat) (a1 a2 a3 : Nat → Int32) : Prop := zt_M l 5 a1 ∧ zt_ls a2 (zt_S l 5) ∧ zt_ls a3 ((zt_S l 5).map (zt_V l 5))
/-- five points at the tree's distances; if the edges are known they are right -/
def zt_K (l : Nat → Nat) (c kn fo : Int32) (a1 a2 a3 : Nat → Int32) : Prop := c = nI 5 ∧ zt_M l 5 a1 ∧ (kn = 0 ∨ (kn = 1 ∧ fo = nI (zt_S l 5).length ∧ zt_G l a1 a2 a3))
theorem zt_find {post : St2 → Prop} {l : Nat → Nat} (hl : ∀ e, e < 7 → l e ≤ 7) (K : zt_K l c kn fo a1 a2 a3)
    (H : ∀ fr' a2' a3' a4' a5', zt_G l a1 a2' a3' → post (nI 5, 1, nI (zt_S l 5).length, fr', a1, a2', a3', a4', a5', a6)) :
    wpX_find post (c, kn, fo, fr, a1, a2, a3, a4, a5, a6) := by
  obtain ⟨hc, hM, hk⟩ := K
  subst hc
  rcases hk with hk | ⟨hk, hf, g⟩
  · subst hk
    refine br_t rfl ?_
    show ∃ fu20 : Nat, wX_find_20 post fu20 (nI 1) (nI 5) 1 (nI (zt_S l 1).length) fr a1 a2 a3 a4 a5 a6
    refine pk_loop (σ := Int32 × (Nat → Int32) × (Nat → Int32) × (Nat → Int32) × (Nat → Int32)) (fun n i s => wX_find_20 post n (nI i) (nI 5) 1 (nI (zt_S l i).length) s.1 a1 s.2.1 s.2.2.1 s.2.2.2.1 s.2.2.2.2 a6)
      (fun i s => 1 ≤ i ∧ zt_ls s.2.1 (zt_S l i) ∧ zt_ls s.2.2.1 ((zt_S l i).map (zt_V l i))) 5 1 (fr, a2, a3, a4, a5) (by decide) ⟨Nat.le_refl 1, zt_ls0 _, zt_ls0 _⟩ ?_ ?_
    · intro n s h
      exact pk_le 5 5 (fun _ => H _ _ _ _ _ ⟨hM, h.2.1, h.2.2⟩) (fun z => absurd z (by omega))
    · intro n i s hi h hw
      refine pk_le 5 i (fun z => absurd z (by omega)) (fun _ => zt_addPoint hl h.1 hi (zt_Mle hM (by omega)) h.2.1 (fun fr' b2 b3 b4 b5 q2 q3 => ?_))
      exact nm_r (nI_1 i) (hw (fr', b2, b3, b4, b5) ⟨by omega, q2, q3⟩)
  · subst hk hf
    exact br_f (by decide) (H _ _ _ _ _ g)
end
end
section
/-! the looks: pathOf, weight, treelike, treeDistance, edges, edge, together, smooth, index, agrees -/
section
variable {c kn fo fr : Int32} {a1 a2 a3 a4 a5 a6 : Nat → Int32}
theorem zt_parts {post : Int32 → Prop} {L : List Nat} {k i j : Nat} (hk : k < L.length) (hL : L.length ≤ 7) (hb : ∀ s, s ∈ L → s < 32) (k2 : zt_ls a2 L) (hi : i < 5) (hj : j < 5)
    (H0 : zt_b (L.getD k 0) i = zt_b (L.getD k 0) j → post 0) (H1 : ¬ zt_b (L.getD k 0) i = zt_b (L.getD k 0) j → post 1) :
    wpX_parts post (c, kn, fo, fr, a1, a2, a3, a4, a5, a6) (nI k) (nI i) (nI j) := by
  have ck : (nI k).toNatClampNeg = k := nI_clamp (by omega)
  unfold wpX_parts
  dsimp only
  rw [ck, k2 k hk]
  exact ⟨pk_in k 32 (by omega), pk_in k 32 (by omega), ek_if (zt_bitE (hb _ (zt_getMem hk)) hi hj) H0 H1⟩
theorem zt_pathOf {post : Int32 → Prop} {L : List Nat} {V : Nat → Nat} {i j : Nat} (hL : L.length ≤ 7) (hb : ∀ s, s ∈ L → s < 32) (k2 : zt_ls a2 L) (k3 : zt_ls a3 (L.map V)) (hi : i < 5) (hj : j < 5)
    (H : post (nI (zt_pth V i j L))) : wpX_pathOf post (c, kn, nI L.length, fr, a1, a2, a3, a4, a5, a6) (nI i) (nI j) := by
  show ∃ fu5 : Nat, wX_pathOf_5 post (nI i) (nI j) c kn (nI L.length) fr a1 a2 a3 a4 a5 a6 fu5 (nI 0) (nI 0)
  refine pk_loop (σ := Unit) (fun n k _ => wX_pathOf_5 post (nI i) (nI j) c kn (nI L.length) fr a1 a2 a3 a4 a5 a6 n (nI (zt_pth V i j (L.take k))) (nI k)) (fun _ _ => True) L.length 0 () (Nat.zero_le _) trivial ?_ ?_
  · intro n _ _
    rw [List.take_length]
    exact pk_le L.length L.length (fun _ => H) (fun z => absurd z (by omega))
  · intro n k _ hk _ hw
    have t := hw () trivial
    rw [zt_takeS hk, zt_pth_app] at t
    have ck : (nI k).toNatClampNeg = k := nI_clamp (by omega)
    refine pk_le L.length k (fun z => absurd z (by omega)) (fun _ => zt_parts hk hL hb k2 hi hj (fun q => ?_) (fun q => ?_))
    · rw [if_pos q, Nat.add_zero] at t
      exact br_t rfl (nm_r (nI_1 k) t)
    · rw [if_neg q] at t
      refine br_f (by decide) ⟨pk_in k 32 (by omega), nm_r (by rw [ck, zt_lsM k3 hk, nI_add]) (nm_r (nI_1 k) t)⟩
theorem zt_pathG {post : Int32 → Prop} {l : Nat → Nat} {i j : Nat} (g : zt_G l a1 a2 a3) (hi : i < 5) (hj : j < 5) (H : post (nI (2 * zt_d l i j))) :
    wpX_pathOf post (c, kn, nI (zt_S l 5).length, fr, a1, a2, a3, a4, a5, a6) (nI i) (nI j) := by
  refine zt_pathOf (zt_Slen (by decide)) (fun s hs => (zt_Sin (n := 5) (by decide) hs).2.2) g.2.1 g.2.2 hi hj ?_
  rw [zt_path]
  exact H
theorem zt_findG {post : St2 → Prop} (H : post (c, 1, fo, fr, a1, a2, a3, a4, a5, a6)) : wpX_find post (c, 1, fo, fr, a1, a2, a3, a4, a5, a6) := br_f (by decide) H
theorem zt_edges {post : Int32 → St2 → Prop} {l : Nat → Nat} (hl : ∀ e, e < 7 → l e ≤ 7) (K : zt_K l c kn fo a1 a2 a3)
    (H : ∀ fr' a2' a3' a4' a5', zt_G l a1 a2' a3' → post (nI (zt_S l 5).length) (nI 5, 1, nI (zt_S l 5).length, fr', a1, a2', a3', a4', a5', a6)) :
    wpX_edges post (c, kn, fo, fr, a1, a2, a3, a4, a5, a6) := zt_find hl K H
theorem zt_weight {post : Int32 → St2 → Prop} {l : Nat → Nat} (g : zt_G l a1 a2 a3)
    (H : post (nI (2 * l 0 + 2 * l 1 + 2 * l 2 + 2 * l 3 + 2 * l 4 + 2 * l 5 + 2 * l 6)) (nI 5, 1, nI (zt_S l 5).length, fr, a1, a2, a3, a4, a5, a6)) :
    wpX_weight post (nI 5, 1, nI (zt_S l 5).length, fr, a1, a2, a3, a4, a5, a6) := by
  have hL := zt_Slen (l := l) (n := 5) (by decide)
  refine zt_findG ?_
  show ∃ fu8 : Nat, wX_weight_8 post (nI 5) 1 (nI (zt_S l 5).length) fr a1 a2 a3 a4 a5 a6 fu8 (nI 0) (nI 0)
  refine pk_loop (σ := Unit) (fun n k _ => wX_weight_8 post (nI 5) 1 (nI (zt_S l 5).length) fr a1 a2 a3 a4 a5 a6 n (nI (zt_tot (zt_V l 5) ((zt_S l 5).take k))) (nI k)) (fun _ _ => True) (zt_S l 5).length 0 () (Nat.zero_le _) trivial ?_ ?_
  · intro n _ _
    rw [List.take_length, zt_total]
    exact pk_le (zt_S l 5).length (zt_S l 5).length (fun _ => H) (fun z => absurd z (by omega))
  · intro n k _ hk _ hw
    have t := hw () trivial
    rw [zt_takeS hk, zt_tot_app] at t
    have ck : (nI k).toNatClampNeg = k := nI_clamp (by omega)
    exact pk_le (zt_S l 5).length k (fun z => absurd z (by omega)) (fun _ => ⟨pk_in k 32 (by omega), nm_r (by rw [ck, zt_lsM g.2.2 hk, nI_add]) (nm_r (nI_1 k) t)⟩)
theorem zt_5 : ¬ nI 5 = 0 := by decide
theorem zt_treelike {post : Int32 → St2 → Prop} {l : Nat → Nat} (g : zt_G l a1 a2 a3) (H : post 1 (nI 5, 1, nI (zt_S l 5).length, fr, a1, a2, a3, a4, a5, a6)) :
    wpX_treelike post (nI 5, 1, nI (zt_S l 5).length, fr, a1, a2, a3, a4, a5, a6) := by
  refine zt_findG ?_
  show ∃ fu8 : Nat, wX_treelike_8 post (nI 5) 1 (nI (zt_S l 5).length) fr a1 a2 a3 a4 a5 a6 fu8 1 (nI 0)
  refine pk_loop (σ := Unit) (fun n k _ => wX_treelike_8 post (nI 5) 1 (nI (zt_S l 5).length) fr a1 a2 a3 a4 a5 a6 n 1 (nI k)) (fun _ _ => True) 25 0 () (Nat.zero_le _) trivial ?_ ?_
  · intro n _ _
    exact pk_le 25 25 (fun _ => br_f (by decide) H) (fun z => absurd z (by omega)) (pk_mul 5 5)
  · intro n k _ hk _ hw
    refine pk_le 25 k (fun z => absurd z (by omega)) (fun _ => ⟨zt_5, zt_5, ?_⟩) (pk_mul 5 5)
    rw [pk_rem (a := k) (d := 5) (by omega) (by decide) (by decide), pk_div (a := k) (d := 5) (by omega) (by decide) (by decide)]
    refine zt_pathG g (by omega) (by omega) (br_f (by decide) ⟨zt_5, zt_5, ?_⟩)
    refine zt_get (by omega) ?_
    rw [g.1 _ _ (by omega) (by omega)]
    exact br_t (zt_2 _).symm (nm_r (nI_1 k) (hw () trivial))
theorem zt_missing {post : Int32 → Prop} {i : Nat} (hi : i < 5) (H : post 0) : wpX_missing post (nI 5, kn, fo, fr, a1, a2, a3, a4, a5, a6) (nI i) :=
  br_f (nI_pos (by omega)) (br_t (nI_lt hi (by decide)) H)
theorem zt_treeDistance {post : Int32 → St2 → Prop} {l : Nat → Nat} {i j : Nat} (g : zt_G l a1 a2 a3) (hi : i < 5) (hj : j < 5) (H : post (nI (2 * zt_d l i j)) (nI 5, 1, nI (zt_S l 5).length, fr, a1, a2, a3, a4, a5, a6)) :
    wpX_treeDistance post (nI 5, 1, nI (zt_S l 5).length, fr, a1, a2, a3, a4, a5, a6) (nI i) (nI j) := by
  unfold wpX_treeDistance
  refine zt_missing hi (br_t rfl (zt_missing hj (br_t rfl (zt_findG ?_))))
  exact zt_pathG g hi hj H
theorem zt_together {post : Int32 → St2 → Prop} {l : Nat → Nat} {i j : Nat} (hl : ∀ e, e < 7 → l e ≤ 7) (g : zt_G l a1 a2 a3) (hi : i < 5) (hj : j < 5)
    (H0 : zt_d l i j = 0 → post 1 (nI 5, 1, nI (zt_S l 5).length, fr, a1, a2, a3, a4, a5, a6)) (H1 : zt_d l i j ≠ 0 → post 0 (nI 5, 1, nI (zt_S l 5).length, fr, a1, a2, a3, a4, a5, a6)) :
    wpX_together post (nI 5, 1, nI (zt_S l 5).length, fr, a1, a2, a3, a4, a5, a6) (nI i) (nI j) := by
  have hd := zt_d_le hl i j
  unfold wpX_together
  refine zt_missing hi (br_t rfl (zt_missing hj (br_t rfl (zt_findG ?_))))
  refine zt_pathG g hi hj ?_
  exact pk_eq (2 * zt_d l i j) 0 (fun z => H0 (by omega)) (fun z => H1 (by omega))
theorem zt_edgeIn {post : Int32 → St2 → Prop} {l : Nat → Nat} {k : Nat} (g : zt_G l a1 a2 a3) (hk : k < (zt_S l 5).length) (H : post (nI ((zt_S l 5).getD k 0)) (nI 5, 1, nI (zt_S l 5).length, fr, a1, a2, a3, a4, a5, a6)) :
    wpX_edge post (nI 5, 1, nI (zt_S l 5).length, fr, a1, a2, a3, a4, a5, a6) (nI k) := by
  have hL := zt_Slen (l := l) (n := 5) (by decide)
  refine zt_findG ?_
  refine br_f (nI_pos (by omega)) (br_t (nI_lt hk (by omega)) ⟨pk_in k 32 (by omega), ?_⟩)
  rw [nI_clamp (by omega), g.2.1 k hk]
  exact H
theorem zt_edgeOut {post : Int32 → St2 → Prop} {l : Nat → Nat} (H : post (-1002) (nI 5, 1, nI (zt_S l 5).length, fr, a1, a2, a3, a4, a5, a6)) :
    wpX_edge post (nI 5, 1, nI (zt_S l 5).length, fr, a1, a2, a3, a4, a5, a6) (nI (zt_S l 5).length) := by
  have hL := zt_Slen (l := l) (n := 5) (by decide)
  refine zt_findG ?_
  exact br_f (nI_pos (by omega)) (br_f (nI_nlt (Nat.le_refl _) (by omega)) H)
theorem zt_half {d : Nat} (h : d ≤ 49) : nI (2 * d) >>> ((1 : Int32) &&& 31) = nI d := by
  rw [pk_shrN (by omega) _ 1 (by decide)]
  congr 1
  omega
theorem zt_smooth {post : Int32 → St2 → Prop} {l : Nat → Nat} (hl : ∀ e, e < 7 → l e ≤ 7) (g : zt_G l a1 a2 a3) (H : ∀ a6', post 0 (nI 5, 1, nI (zt_S l 5).length, fr, a1, a2, a3, a4, a5, a6')) :
    wpX_smooth post (nI 5, 1, nI (zt_S l 5).length, fr, a1, a2, a3, a4, a5, a6) := by
  refine zt_findG ?_
  show ∃ fu6 : Nat, wX_smooth_6 post (nI 5) 1 (nI (zt_S l 5).length) fr fu6 (nI 0) a1 a2 a3 a4 a5 a6
  refine pk_loop (σ := Nat → Int32) (fun n k b6 => wX_smooth_6 post (nI 5) 1 (nI (zt_S l 5).length) fr n (nI k) a1 a2 a3 a4 a5 b6) (fun k b6 => ∀ j, j < k → b6 j = nI (zt_d l (j / 5) (j % 5))) 25 0 a6 (Nat.zero_le _) (fun j hj => absurd hj (Nat.not_lt_zero j)) ?_ ?_
  · intro n b6 h
    refine pk_le 25 25 (fun _ => ?_) (fun z => absurd z (by omega)) (pk_mul 5 5)
    show ∃ fu67 : Nat, wX_smooth_67 post fu67 0 (nI 0) (nI 5) 1 (nI (zt_S l 5).length) fr a1 a2 a3 a4 a5 b6
    refine pk_loop (σ := Unit) (fun n k _ => wX_smooth_67 post n 0 (nI k) (nI 5) 1 (nI (zt_S l 5).length) fr a1 a2 a3 a4 a5 b6) (fun _ _ => True) 25 0 () (Nat.zero_le _) trivial ?_ ?_
    · intro n _ _
      exact pk_le 25 25 (fun _ => H b6) (fun z => absurd z (by omega)) (pk_mul 5 5)
    · intro n k _ hk _ hw
      have ck : (nI k).toNatClampNeg = k := nI_clamp (by omega)
      refine pk_le 25 k (fun z => absurd z (by omega)) (fun _ => ⟨zt_5, nm_r (pk_div (by omega) (by decide) (by decide)) ⟨zt_5, nm_r (pk_rem (by omega) (by decide) (by decide)) ?_⟩⟩) (pk_mul 5 5)
      refine pk_le (k % 5) (k / 5) (fun _ => nm_r (nI_1 k) (hw () trivial)) (fun _ => ⟨pk_in k 49 (by omega), zt_get (by omega) ?_⟩)
      refine br_t ?_ (nm_r (nI_1 k) (hw () trivial))
      rw [ck, h k hk, g.1 _ _ (by omega) (by omega)]
  · intro n k b6 hk h hw
    have hd := zt_d_le hl (k / 5) (k % 5)
    have ck : (nI k).toNatClampNeg = k := nI_clamp (by omega)
    refine pk_le 25 k (fun z => absurd z (by omega)) (fun _ => ⟨zt_5, zt_5, ?_⟩) (pk_mul 5 5)
    rw [pk_rem (a := k) (d := 5) (by omega) (by decide) (by decide), pk_div (a := k) (d := 5) (by omega) (by decide) (by decide)]
    refine zt_pathG g (by omega) (by omega) (nm_r (zt_half hd) ?_)
    refine pk_le (zt_d l (k / 5) (k % 5)) 60 (fun _ => ⟨pk_in k 49 (by omega), nm_r (e' := upd b6 k (nI (zt_d l (k / 5) (k % 5)))) (by rw [ck, zt_byte _ (by omega)]) (nm_r (nI_1 k) (hw _ ?_))⟩) (fun z => absurd z (by omega))
    intro j hj
    by_cases e : j = k
    · rw [e, pk_us]
    · rw [pk_un e, h j (by omega)]
theorem zt_odd : ∀ s, s < 32 → s % 2 = 1 → ¬ (nI s &&& 1) = 0 := by decide +kernel
theorem zt_badSplit {post : Int32 → Prop} {s : Nat} (hs : s < 31) (ho : s % 2 = 1) (H : post 0) : wpX_badSplit post (nI 5, kn, fo, fr, a1, a2, a3, a4, a5, a6) (nI s) := by
  refine br_f (by decide) (pk_lt s 1 (fun z => absurd z (by omega)) (fun _ => pk_le 31 s (fun z => absurd z (by omega)) (fun _ => br_f (zt_odd s (by omega) ho) H) (zt_full 5 (by decide))))
theorem zt_index {post : Int32 → Prop} {l : Nat → Nat} {s : Nat} (hl : ∀ e, e < 7 → l e ≤ 7) (hM : zt_M l 5 a1) (hs : s < 31) (ho : s % 2 = 1)
    (H : ∀ r : Int, -200 ≤ r → r ≤ 1000 → zt_R (zt_d l) s 5 r → post (zt_i r)) : wpX_index post (nI 5, kn, fo, fr, a1, a2, a3, a4, a5, a6) (nI s) := by
  unfold wpX_index
  exact zt_badSplit hs ho (br_t rfl (zt_indexOf (by omega) (by decide) (by decide) hM (fun i j => Nat.le_trans (zt_d_le hl i j) (by decide)) H))
def zt_agr (a b : Nat) : Bool := (a &&& b == a) || ((b &&& a == b) || (a ||| b == 31))
theorem zt_agree {post : Int32 → Prop} {s b : Nat} (hs : s < 32) (hb : b < 32) (H : post (if zt_agr s b = true then 1 else 0)) : wpX_agree post (nI 5, kn, fo, fr, a1, a2, a3, a4, a5, a6) (nI s) (nI b) := by
  refine nm_e ?_
  by_cases h1 : s &&& b = s
  · rw [if_pos (by unfold zt_agr; rw [h1, beq_self_eq_true, Bool.true_or])] at H
    exact br_t ((zt_sb s hs b hb).mpr h1) H
  · refine br_f (fun z => h1 ((zt_sb s hs b hb).mp z)) ?_
    by_cases h2 : b &&& s = b
    · rw [if_pos (by unfold zt_agr; rw [h2, beq_self_eq_true, Bool.true_or, Bool.or_true])] at H
      exact br_t ((zt_sb b hb s hs).mpr h2) H
    · refine br_f (fun z => h2 ((zt_sb b hb s hs).mp z)) ?_
      by_cases h3 : s ||| b = 31
      · rw [if_pos (by unfold zt_agr; rw [h3, beq_self_eq_true, Bool.or_true, Bool.or_true])] at H
        exact br_t ((zt_or31 s hs b hb).mpr h3) H
      · refine br_f (fun z => h3 ((zt_or31 s hs b hb).mp z)) ?_
        rw [if_neg (by unfold zt_agr; rw [beq_eq_false_iff_ne.mpr h1, beq_eq_false_iff_ne.mpr h2, beq_eq_false_iff_ne.mpr h3]; decide)] at H
        exact H
theorem zt_agreesWithAll {post : Int32 → Prop} {L : List Nat} {s : Nat} (hL : L.length ≤ 7) (hb : ∀ g, g ∈ L → g < 32) (k2 : zt_ls a2 L) (hs : s < 32)
    (H : post (if L.all (zt_agr s) = true then 1 else 0)) : wpX_agreesWithAll post (nI 5, kn, nI L.length, fr, a1, a2, a3, a4, a5, a6) (nI s) := by
  have nar : ∀ b : Bool, narrow .boolean (.int (if b = true then (1 : Int32) else 0)) = .int (if b = true then (1 : Int32) else 0) := by
    intro b
    cases b <;> rfl
  show ∃ fu4 : Nat, wX_agreesWithAll_4 post (nI s) (nI 5) kn (nI L.length) fr a1 a2 a3 a4 a5 a6 fu4 1 (nI 0)
  refine pk_loop (σ := Unit) (fun n k _ => wX_agreesWithAll_4 post (nI s) (nI 5) kn (nI L.length) fr a1 a2 a3 a4 a5 a6 n (if (L.take k).all (zt_agr s) = true then 1 else 0) (nI k)) (fun _ _ => True) L.length 0 () (Nat.zero_le _) trivial ?_ ?_
  · intro n _ _
    rw [List.take_length]
    exact pk_le L.length L.length (fun _ => ⟨nar _, H⟩) (fun z => absurd z (by omega))
  · intro n k _ hk _ hw
    have t := hw () trivial
    rw [zt_takeS hk, List.all_append] at t
    have ck : (nI k).toNatClampNeg = k := nI_clamp (by omega)
    refine pk_le L.length k (fun z => absurd z (by omega)) (fun _ => ?_)
    by_cases h : (L.take k).all (zt_agr s) = true
    · rw [if_pos h]
      rw [h, Bool.true_and] at t
      refine br_f (by decide) ⟨pk_in k 32 (by omega), ?_⟩
      rw [ck, k2 k hk]
      refine zt_agree hs (hb _ (zt_getMem hk)) (nm_r (nI_1 k) ?_)
      simp only [List.all_cons, List.all_nil, Bool.and_true] at t
      exact t
    · rw [if_neg h]
      refine br_t rfl ⟨nar false, ?_⟩
      have hn : ¬ L.all (zt_agr s) = true := by
        intro z
        refine h (List.all_eq_true.mpr (fun x hx => List.all_eq_true.mp z x (List.mem_of_mem_take hx)))
      rw [if_neg hn] at H
      exact H
theorem zt_agrees {post : Int32 → St2 → Prop} {l : Nat → Nat} {s : Nat} (hl : ∀ e, e < 7 → l e ≤ 7) (K : zt_K l c kn fo a1 a2 a3) (hs : s < 31) (ho : s % 2 = 1)
    (H : ∀ fr' a2' a3' a4' a5', zt_G l a1 a2' a3' → post (if (zt_S l 5).all (zt_agr s) = true then 1 else 0) (nI 5, 1, nI (zt_S l 5).length, fr', a1, a2', a3', a4', a5', a6)) :
    wpX_agrees post (c, kn, fo, fr, a1, a2, a3, a4, a5, a6) (nI s) := by
  have K0 := K
  obtain ⟨hc, _, _⟩ := K0
  subst hc
  unfold wpX_agrees
  refine zt_badSplit hs ho (br_t rfl (zt_find hl K (fun fr' b2 b3 b4 b5 g => ?_)))
  refine zt_agreesWithAll (zt_Slen (by decide)) (fun s hs => (zt_Sin (n := 5) (by decide) hs).2.2) g.2.1 (by omega) ?_
  have t := H fr' b2 b3 b4 b5 g
  by_cases h : (zt_S l 5).all (zt_agr s) = true
  · rw [if_pos h] at t ⊢
    exact br_f (by decide) t
  · rw [if_neg h] at t ⊢
    exact br_t rfl t
end
end
section
/-! homeOf, above, partsAt, pointsAt, agreeing -/
/-- an edge's place or none: 0 is -1, k + 1 is k -/
def zt_e (b : Nat) : Int32 := nI b - 1
theorem zt_eS (k : Nat) : zt_e (k + 1) = nI k := nI_pred k
theorem zt_eI (b : Nat) : zt_e b = zt_i ((b : Int) - 1) := by
  unfold zt_e
  rw [zt_n, show (1 : Int32) = zt_i 1 by decide, zt_sub]
theorem zt_e1 (b : Nat) : zt_e b + 1 = zt_e (b + 1) := by
  rw [zt_eI, zt_eI, show (1 : Int32) = zt_i 1 by decide, zt_add]
  congr 1
  omega
theorem zt_eE {a b : Nat} (ha : a ≤ 1000) (hb : b ≤ 1000) : zt_e a = zt_e b ↔ a = b := by
  rw [zt_eI, zt_eI, zt_eq (by omega) (by omega) (by omega) (by omega)]
  omega
theorem zt_eL {a b : Nat} (ha : a ≤ 1000) (hb : b ≤ 1000) : nI a ≤ zt_e b ↔ a + 1 ≤ b := by
  rw [zt_eI, zt_n, zt_le (by omega) (by omega) (by omega) (by omega)]
  omega
def zt_nb (L : List Nat) (q : Bool) (b k : Nat) : Nat := if q = true ∧ (b = 0 ∨ L.getD (b - 1) 0 &&& L.getD k 0 = L.getD (b - 1) 0) then k + 1 else b
def zt_ho (L : List Nat) (i : Nat) : Nat → Nat
  | 0 => 0
  | k + 1 => zt_nb L (zt_b (L.getD k 0) i == 0) (zt_ho L i k) k
def zt_ab (L : List Nat) (K : Nat) : Nat → Nat
  | 0 => 0
  | k + 1 => zt_nb L (k != K && (L.getD k 0 &&& L.getD K 0 == L.getD k 0)) (zt_ab L K k) k
theorem zt_nb_le {L : List Nat} {q : Bool} {b k : Nat} (h : b ≤ k) : zt_nb L q b k ≤ k + 1 := by
  unfold zt_nb
  split <;> omega
theorem zt_ho_le (L : List Nat) (i : Nat) : ∀ k, zt_ho L i k ≤ k
  | 0 => Nat.le_refl 0
  | k + 1 => zt_nb_le (zt_ho_le L i k)
theorem zt_ab_le (L : List Nat) (i : Nat) : ∀ k, zt_ab L i k ≤ k
  | 0 => Nat.le_refl 0
  | k + 1 => zt_nb_le (zt_ab_le L i k)
section
variable {c kn fo fr : Int32} {a1 a2 a3 a4 a5 a6 : Nat → Int32}
theorem zt_h30 {post : Int32 → Prop} {J4 : Int32 → Int32 → Prop} {x1 : Int32} {L : List Nat} {b k : Nat} (hk : k < L.length) (hL : L.length ≤ 7) (hb : ∀ g, g ∈ L → g < 32) (k2 : zt_ls a2 L) (hbk : b ≤ k) (q : Bool)
    (H : J4 (zt_e (zt_nb L q b k)) (nI (k + 1))) : wX_homeOf_30 post J4 x1 (zt_e b) (nI k) (if q = true then 1 else 0) c kn fo fr a1 a2 a3 a4 a5 a6 := by
  have ck : (nI k).toNatClampNeg = k := nI_clamp (by omega)
  cases q with
  | false =>
    rw [show zt_nb L false b k = b from if_neg (fun z => absurd z.1 (by decide))] at H
    exact br_t rfl (nm_r (nI_1 k) H)
  | true =>
    refine br_f (by decide) ?_
    cases b with
    | zero =>
      rw [show zt_nb L true 0 k = k + 1 from if_pos ⟨rfl, Or.inl rfl⟩, zt_eS] at H
      exact br_t (by decide) (nm_r (nI_1 k) H)
    | succ b =>
      have cb : (nI b).toNatClampNeg = b := nI_clamp (by omega)
      rw [zt_eS]
      refine br_f (nI_pos (by omega)) ⟨pk_in b 32 (by omega), pk_in k 32 (by omega), ?_⟩
      rw [ck, cb, k2 k hk, k2 b (by omega)]
      refine ek_if (zt_sb _ (hb _ (zt_getMem (by omega))) _ (hb _ (zt_getMem hk))) (fun z => ?_) (fun z => ?_)
      · rw [show zt_nb L true (b + 1) k = k + 1 from if_pos ⟨rfl, Or.inr z⟩, zt_eS] at H
        exact nm_r (nI_1 k) H
      · rw [show zt_nb L true (b + 1) k = b + 1 from if_neg (fun y => y.2.elim (fun y => absurd y (by omega)) z), zt_eS] at H
        exact nm_r (nI_1 k) H
theorem zt_a40 {post : Int32 → Prop} {J4 : Int32 → Int32 → Prop} {x1 : Int32} {L : List Nat} {b k : Nat} (hk : k < L.length) (hL : L.length ≤ 7) (hb : ∀ g, g ∈ L → g < 32) (k2 : zt_ls a2 L) (hbk : b ≤ k) (q : Bool)
    (H : J4 (zt_e (zt_nb L q b k)) (nI (k + 1))) : wX_above_40 post J4 x1 (zt_e b) (nI k) (if q = true then 1 else 0) c kn fo fr a1 a2 a3 a4 a5 a6 := by
  have ck : (nI k).toNatClampNeg = k := nI_clamp (by omega)
  cases q with
  | false =>
    rw [show zt_nb L false b k = b from if_neg (fun z => absurd z.1 (by decide))] at H
    exact br_t rfl (nm_r (nI_1 k) H)
  | true =>
    refine br_f (by decide) ?_
    cases b with
    | zero =>
      rw [show zt_nb L true 0 k = k + 1 from if_pos ⟨rfl, Or.inl rfl⟩, zt_eS] at H
      exact br_t (by decide) (nm_r (nI_1 k) H)
    | succ b =>
      have cb : (nI b).toNatClampNeg = b := nI_clamp (by omega)
      rw [zt_eS]
      refine br_f (nI_pos (by omega)) ⟨pk_in b 32 (by omega), pk_in k 32 (by omega), ?_⟩
      rw [ck, cb, k2 k hk, k2 b (by omega)]
      refine ek_if (zt_sb _ (hb _ (zt_getMem (by omega))) _ (hb _ (zt_getMem hk))) (fun z => ?_) (fun z => ?_)
      · rw [show zt_nb L true (b + 1) k = k + 1 from if_pos ⟨rfl, Or.inr z⟩, zt_eS] at H
        exact nm_r (nI_1 k) H
      · rw [show zt_nb L true (b + 1) k = b + 1 from if_neg (fun y => y.2.elim (fun y => absurd y (by omega)) z), zt_eS] at H
        exact nm_r (nI_1 k) H
theorem zt_homeOf {post : Int32 → Prop} {L : List Nat} {i : Nat} (hL : L.length ≤ 7) (hb : ∀ g, g ∈ L → g < 32) (k2 : zt_ls a2 L) (hi : i < 5)
    (H : post (zt_e (zt_ho L i L.length))) : wpX_homeOf post (c, kn, nI L.length, fr, a1, a2, a3, a4, a5, a6) (nI i) := by
  show ∃ fu4 : Nat, wX_homeOf_4 post (nI i) c kn (nI L.length) fr a1 a2 a3 a4 a5 a6 fu4 (zt_e 0) (nI 0)
  refine pk_loop (σ := Unit) (fun n k _ => wX_homeOf_4 post (nI i) c kn (nI L.length) fr a1 a2 a3 a4 a5 a6 n (zt_e (zt_ho L i k)) (nI k)) (fun _ _ => True) L.length 0 () (Nat.zero_le _) trivial ?_ ?_
  · intro n _ _
    exact pk_le L.length L.length (fun _ => H) (fun z => absurd z (by omega))
  · intro n k _ hk _ hw
    have t := hw () trivial
    have ck : (nI k).toNatClampNeg = k := nI_clamp (by omega)
    have e : zt_ho L i (k + 1) = zt_nb L (zt_b (L.getD k 0) i == 0) (zt_ho L i k) k := rfl
    rw [e] at t
    refine pk_le L.length k (fun z => absurd z (by omega)) (fun _ => ⟨pk_in k 32 (by omega), ?_⟩)
    rw [ck, k2 k hk]
    have s := zt_h30 (post := post) (x1 := nI i) (c := c) (kn := kn) (fo := nI L.length) (fr := fr) (a1 := a1) (a3 := a3) (a4 := a4) (a5 := a5) (a6 := a6) hk hL hb k2 (zt_ho_le L i k) (zt_b (L.getD k 0) i == 0) t
    refine ek_if (zt_bit0 (hb _ (zt_getMem hk)) hi) (fun z => ?_) (fun z => ?_)
    · rw [if_pos (beq_iff_eq.mpr z)] at s
      exact s
    · rw [if_neg (fun y => z (beq_iff_eq.mp y))] at s
      exact s
theorem zt_above {post : Int32 → Prop} {L : List Nat} {K : Nat} (hL : L.length ≤ 7) (hb : ∀ g, g ∈ L → g < 32) (k2 : zt_ls a2 L) (hK : K < L.length)
    (H : post (zt_e (zt_ab L K L.length))) : wpX_above post (c, kn, nI L.length, fr, a1, a2, a3, a4, a5, a6) (nI K) := by
  show ∃ fu4 : Nat, wX_above_4 post (nI K) c kn (nI L.length) fr a1 a2 a3 a4 a5 a6 fu4 (zt_e 0) (nI 0)
  refine pk_loop (σ := Unit) (fun n k _ => wX_above_4 post (nI K) c kn (nI L.length) fr a1 a2 a3 a4 a5 a6 n (zt_e (zt_ab L K k)) (nI k)) (fun _ _ => True) L.length 0 () (Nat.zero_le _) trivial ?_ ?_
  · intro n _ _
    exact pk_le L.length L.length (fun _ => H) (fun z => absurd z (by omega))
  · intro n k _ hk _ hw
    have t := hw () trivial
    have ck : (nI k).toNatClampNeg = k := nI_clamp (by omega)
    have cK : (nI K).toNatClampNeg = K := nI_clamp (by omega)
    have e : zt_ab L K (k + 1) = zt_nb L (k != K && (L.getD k 0 &&& L.getD K 0 == L.getD k 0)) (zt_ab L K k) k := rfl
    rw [e] at t
    have s := zt_a40 (post := post) (x1 := nI K) (c := c) (kn := kn) (fo := nI L.length) (fr := fr) (a1 := a1) (a3 := a3) (a4 := a4) (a5 := a5) (a6 := a6) hk hL hb k2 (zt_ab_le L K k) (k != K && (L.getD k 0 &&& L.getD K 0 == L.getD k 0)) t
    refine pk_le L.length k (fun z => absurd z (by omega)) (fun _ => pk_eq k K (fun z => ?_) (fun z => ⟨pk_in k 32 (by omega), pk_in K 32 (by omega), ?_⟩))
    · rw [if_neg (by rw [z, bne_self_eq_false, Bool.false_and]; decide)] at s
      exact s
    · rw [ck, cK, k2 k hk, k2 K hK]
      rw [show (k != K) = true from bne_iff_ne.mpr z, Bool.true_and] at s
      refine ek_if (zt_sb _ (hb _ (zt_getMem hk)) _ (hb _ (zt_getMem hK))) (fun y => ?_) (fun y => ?_)
      · rw [if_pos (beq_iff_eq.mpr y)] at s
        exact s
      · rw [if_neg (fun x => y (beq_iff_eq.mp x))] at s
        exact s
def zt_cnt (P : Nat → Bool) : Nat → Nat
  | 0 => 0
  | k + 1 => zt_cnt P k + (if P k = true then 1 else 0)
theorem zt_cnt_le (P : Nat → Bool) : ∀ k, zt_cnt P k ≤ k
  | 0 => Nat.le_refl 0
  | k + 1 => by
    have := zt_cnt_le P k
    unfold zt_cnt
    split <;> omega
def zt_po (L : List Nat) (K : Nat) : Nat := zt_cnt (fun i => zt_ho L i L.length == K) 5
def zt_pa (L : List Nat) (K : Nat) : Nat := (if K = 0 then 0 else 1) + zt_cnt (fun q => zt_ab L q L.length == K) L.length + zt_po L K
theorem zt_pointsAt {post : Int32 → Prop} {L : List Nat} {K : Nat} (hL : L.length ≤ 7) (hb : ∀ g, g ∈ L → g < 32) (k2 : zt_ls a2 L) (hK : K ≤ L.length)
    (H : post (nI (zt_po L K))) : wpX_pointsAt post (nI 5, kn, nI L.length, fr, a1, a2, a3, a4, a5, a6) (zt_e K) := by
  show ∃ fu4 : Nat, wX_pointsAt_4 post (zt_e K) (nI 5) kn (nI L.length) fr a1 a2 a3 a4 a5 a6 fu4 (nI 0) (nI 0)
  refine pk_loop (σ := Unit) (fun n k _ => wX_pointsAt_4 post (zt_e K) (nI 5) kn (nI L.length) fr a1 a2 a3 a4 a5 a6 n (nI (zt_cnt (fun i => zt_ho L i L.length == K) k)) (nI k)) (fun _ _ => True) 5 0 () (Nat.zero_le _) trivial ?_ ?_
  · intro n _ _
    exact pk_le 5 5 (fun _ => H) (fun z => absurd z (by omega))
  · intro n k _ hk _ hw
    have t := hw () trivial
    have e : zt_cnt (fun i => zt_ho L i L.length == K) (k + 1) = zt_cnt (fun i => zt_ho L i L.length == K) k + (if (zt_ho L k L.length == K) = true then 1 else 0) := rfl
    rw [e] at t
    have hh := zt_ho_le L k L.length
    refine pk_le 5 k (fun z => absurd z (by omega)) (fun _ => zt_homeOf hL hb k2 hk (ek_if (zt_eE (by omega) (by omega)) (fun z => ?_) (fun z => ?_)))
    · rw [if_pos (beq_iff_eq.mpr z)] at t
      exact nm_r (nI_1 _) (nm_r (nI_1 k) t)
    · rw [if_neg (fun x => z (beq_iff_eq.mp x)), Nat.add_zero] at t
      exact nm_r (nI_1 k) t
theorem zt_pa49 {post : Int32 → Prop} {L : List Nat} {K m : Nat} (hL : L.length ≤ 7) (hb : ∀ g, g ∈ L → g < 32) (k2 : zt_ls a2 L) (hK : K ≤ L.length)
    (H : post (nI (m + zt_po L K))) : ∃ fu49 : Nat, wX_partsAt_49 post (zt_e K) (nI 5) kn (nI L.length) fr a1 a2 a3 a4 a5 a6 fu49 (nI m) 0 := by
  refine pk_loop (σ := Unit) (fun n k _ => wX_partsAt_49 post (zt_e K) (nI 5) kn (nI L.length) fr a1 a2 a3 a4 a5 a6 n (nI (m + zt_cnt (fun i => zt_ho L i L.length == K) k)) (nI k)) (fun _ _ => True) 5 0 () (Nat.zero_le _) trivial ?_ ?_
  · intro n _ _
    exact pk_le 5 5 (fun _ => H) (fun z => absurd z (by omega))
  · intro n k _ hk _ hw
    have t := hw () trivial
    have e : zt_cnt (fun i => zt_ho L i L.length == K) (k + 1) = zt_cnt (fun i => zt_ho L i L.length == K) k + (if (zt_ho L k L.length == K) = true then 1 else 0) := rfl
    rw [e] at t
    have hh := zt_ho_le L k L.length
    refine pk_le 5 k (fun z => absurd z (by omega)) (fun _ => zt_homeOf hL hb k2 hk (ek_if (zt_eE (by omega) (by omega)) (fun z => ?_) (fun z => ?_)))
    · rw [if_pos (beq_iff_eq.mpr z), ← Nat.add_assoc] at t
      exact nm_r (nI_1 _) (nm_r (nI_1 k) t)
    · rw [if_neg (fun x => z (beq_iff_eq.mp x)), Nat.add_zero] at t
      exact nm_r (nI_1 k) t
theorem zt_pa12 {post : Int32 → Prop} {L : List Nat} {K m : Nat} (hL : L.length ≤ 7) (hb : ∀ g, g ∈ L → g < 32) (k2 : zt_ls a2 L) (hK : K ≤ L.length)
    (H : post (nI (m + zt_cnt (fun q => zt_ab L q L.length == K) L.length + zt_po L K))) : ∃ fu12 : Nat, wX_partsAt_12 post (zt_e K) (nI 5) kn (nI L.length) fr a1 a2 a3 a4 a5 a6 fu12 (nI m) 0 := by
  refine pk_loop (σ := Unit) (fun n k _ => wX_partsAt_12 post (zt_e K) (nI 5) kn (nI L.length) fr a1 a2 a3 a4 a5 a6 n (nI (m + zt_cnt (fun q => zt_ab L q L.length == K) k)) (nI k)) (fun _ _ => True) L.length 0 () (Nat.zero_le _) trivial ?_ ?_
  · intro n _ _
    exact pk_le L.length L.length (fun _ => zt_pa49 hL hb k2 hK H) (fun z => absurd z (by omega))
  · intro n k _ hk _ hw
    have t := hw () trivial
    have e : zt_cnt (fun q => zt_ab L q L.length == K) (k + 1) = zt_cnt (fun q => zt_ab L q L.length == K) k + (if (zt_ab L k L.length == K) = true then 1 else 0) := rfl
    rw [e] at t
    have hh := zt_ab_le L k L.length
    refine pk_le L.length k (fun z => absurd z (by omega)) (fun _ => zt_above hL hb k2 hk (ek_if (zt_eE (by omega) (by omega)) (fun z => ?_) (fun z => ?_)))
    · rw [if_pos (beq_iff_eq.mpr z), ← Nat.add_assoc] at t
      exact nm_r (nI_1 _) (nm_r (nI_1 k) t)
    · rw [if_neg (fun x => z (beq_iff_eq.mp x)), Nat.add_zero] at t
      exact nm_r (nI_1 k) t
theorem zt_partsAt {post : Int32 → Prop} {L : List Nat} {K : Nat} (hL : L.length ≤ 7) (hb : ∀ g, g ∈ L → g < 32) (k2 : zt_ls a2 L) (hK : K ≤ L.length)
    (H : post (nI (zt_pa L K))) : wpX_partsAt post (nI 5, kn, nI L.length, fr, a1, a2, a3, a4, a5, a6) (zt_e K) := by
  refine ek_if (zt_eL (a := 0) (b := K) (by omega) (by omega)) (fun z => ?_) (fun z => ?_)
  · refine zt_pa12 (m := 1) hL hb k2 hK ?_
    unfold zt_pa at H
    rw [if_neg (by omega)] at H
    exact H
  · refine zt_pa12 (m := 0) hL hb k2 hK ?_
    unfold zt_pa at H
    rw [if_pos (by omega)] at H
    exact H
def zt_al (m p : Nat) : Nat := if m = 2 ∧ 1 < m - p then 1 else m - p
def zt_gs (L : List Nat) : Nat → Int
  | 0 => L.length
  | K + 1 => if zt_pa L K ≤ 1 then zt_gs L K else zt_gs L K + ((2 ^ (zt_pa L K - 1) : Nat) : Int) - 1 - (zt_al (zt_pa L K) (zt_po L K) : Int)
theorem zt_shl : ∀ m, m < 20 → 1 ≤ m → ((1 : Int32) <<< ((nI m - 1) &&& 31)) = nI (2 ^ (m - 1)) := by decide +kernel
theorem zt_ag51 {post : Int32 → St2 → Prop} {J : Int32 → Int32 → Prop} {z : Int} {K m al : Nat} (hm : m < 20)
    (H : J (zt_i (if m ≤ 1 then z else z + ((2 ^ (m - 1) : Nat) : Int) - 1 - (al : Int))) (zt_e (K + 1))) :
    wX_agreeing_51 post J (zt_i z) (zt_e K) (nI m) (nI al) c kn fo fr a1 a2 a3 a4 a5 a6 := by
  refine pk_le m 1 (fun q => ?_) (fun q => ?_)
  · rw [if_pos q] at H
    exact nm_r (zt_e1 K) H
  · rw [if_neg (by omega)] at H
    refine nm_r ?_ (nm_r (zt_e1 K) H)
    rw [zt_shl m hm (by omega), zt_n, zt_n al, show (1 : Int32) = zt_i 1 by decide, zt_add, zt_sub, zt_sub]
theorem zt_agreeing {post : Int32 → St2 → Prop} {L : List Nat} (hL : L.length ≤ 7) (hb : ∀ g, g ∈ L → g < 32) (k2 : zt_ls a2 L)
    (H : post (zt_i (zt_gs L (L.length + 1))) (nI 5, 1, nI L.length, fr, a1, a2, a3, a4, a5, a6)) : wpX_agreeing post (nI 5, 1, nI L.length, fr, a1, a2, a3, a4, a5, a6) := by
  refine zt_findG ?_
  show ∃ fu11 : Nat, wX_agreeing_11 post (nI 5) 1 (nI L.length) fr a1 a2 a3 a4 a5 a6 fu11 (nI L.length) (zt_e 0)
  rw [show nI L.length = zt_i (zt_gs L 0) from zt_n _]
  rw [show zt_i (zt_gs L 0) = nI L.length from (zt_n _).symm]
  have key := pk_loop (σ := Unit) (fun n K _ => wX_agreeing_11 post (nI 5) 1 (nI L.length) fr a1 a2 a3 a4 a5 a6 n (zt_i (zt_gs L K)) (zt_e K)) (fun _ _ => True) (L.length + 1) 0 () (Nat.zero_le _) trivial ?_ ?_
  · rw [show zt_i (zt_gs L 0) = nI L.length from (zt_n _).symm] at key
    exact key
  · intro n _ _
    exact ek_if (zt_eL (by omega) (by omega)) (fun _ => H) (fun z => absurd (Nat.le_refl _) z)
  · intro n K _ hK _ hw
    have t := hw () trivial
    have hpo := zt_cnt_le (fun i => zt_ho L i L.length == K) 5
    have hpb := zt_cnt_le (fun q => zt_ab L q L.length == K) L.length
    have hpo' : zt_po L K ≤ 5 := hpo
    have hpa : zt_pa L K ≤ 13 ∧ zt_po L K ≤ zt_pa L K := by
      unfold zt_pa
      split <;> omega
    have e : zt_gs L (K + 1) = if zt_pa L K ≤ 1 then zt_gs L K else zt_gs L K + ((2 ^ (zt_pa L K - 1) : Nat) : Int) - 1 - (zt_al (zt_pa L K) (zt_po L K) : Int) := rfl
    rw [e] at t
    refine ek_if (zt_eL (by omega) (by omega)) (fun z => absurd z (by omega)) (fun _ => zt_partsAt hL hb k2 (by omega) (zt_pointsAt hL hb k2 (by omega) (nm_r (pk_sub hpa.2) ?_)))
    refine pk_eq (zt_pa L K) 2 (fun z => pk_le (zt_pa L K - zt_po L K) 1 (fun y => ?_) (fun y => ?_)) (fun z => ?_)
    · rw [show zt_al (zt_pa L K) (zt_po L K) = zt_pa L K - zt_po L K from if_neg (by omega)] at t
      exact zt_ag51 (by omega) t
    · rw [show zt_al (zt_pa L K) (zt_po L K) = 1 from if_pos ⟨z, y⟩] at t
      exact zt_ag51 (al := 1) (by omega) t
    · rw [show zt_al (zt_pa L K) (zt_po L K) = zt_pa L K - zt_po L K from if_neg (by omega)] at t
      exact zt_ag51 (by omega) t
end
theorem zt_gsA : ∀ m, m < 128 → (7 ≤ zt_gs (zt_Sm m 5) ((zt_Sm m 5).length + 1) ∧ zt_gs (zt_Sm m 5) ((zt_Sm m 5).length + 1) ≤ 100) := by decide +kernel
theorem zt_gsB : ∀ m, m < 128 → zt_b m 5 = 1 → zt_b m 6 = 1 → zt_gs (zt_Sm m 5) ((zt_Sm m 5).length + 1) = 7 := by decide +kernel
end
section
/-! way, put, point, set, distance -/
/-- length e out of the law's packed lengths -/
def zt_l (x : Int32) (e : Nat) : Nat := ((x >>> ((3 * nI e) &&& 31)) &&& 7).toNatClampNeg
theorem zt_lb (x : Int32) (e : Nat) : (x >>> ((3 * nI e) &&& 31)) &&& 7 = nI (zt_l x e) ∧ zt_l x e ≤ 7 := by
  obtain ⟨j, hj, h⟩ := pk_andE (x >>> ((3 * nI e) &&& 31)) (m := 7) 3 (by decide)
  have hj' : j < 8 := hj
  have e' : zt_l x e = j := by
    unfold zt_l
    rw [h, nI_clamp (by omega)]
  rw [e']
  exact ⟨h, by omega⟩
theorem zt_lle (x : Int32) : ∀ e, e < 7 → zt_l x e ≤ 7 := fun e _ => (zt_lb x e).2
theorem zt_l5 (x : Int32) : (x >>> ((15 : Int32) &&& 31)) &&& 7 = nI (zt_l x 5) := by
  rw [← (zt_lb x 5).1, show (15 : Int32) = 3 * nI 5 by decide]
theorem zt_l6 (x : Int32) : (x >>> ((18 : Int32) &&& 31)) &&& 7 = nI (zt_l x 6) := by
  rw [← (zt_lb x 6).1, show (18 : Int32) = 3 * nI 6 by decide]
theorem zt_dv (l : Nat → Nat) : ∀ i, i < 5 → ∀ j, j < 5 → i ≠ j → zt_d l i j = l i + l j + (if decide (i < 2) = decide (j < 2) then 0 else l 5) + (if decide (i < 3) = decide (j < 3) then 0 else l 6) := by
  intro i hi j hj hij
  rcases i with _ | _ | _ | _ | _ | i
  all_goals first | (exfalso; omega) | skip
  all_goals (rcases j with _ | _ | _ | _ | _ | j)
  all_goals first | (exfalso; omega) | skip
  all_goals (simp [zt_d, zt_s7, zt_c, zt_tr, zt_b])
  all_goals omega
theorem zt_w51 {post : Int32 → Prop} {x : Int32} {i j s : Nat} (hi : i < 5) (hj : j < 5) (H0 : i = j → post 0) (H1 : i ≠ j → post (nI (s + (if decide (i < 3) = decide (j < 3) then 0 else zt_l x 6)))) :
    wL_way_51 post x (nI i) (nI j) (nI s) := by
  refine pk_le 3 i (fun a => pk_le 3 j (fun b => ?_) (fun b => ?_)) (fun a => pk_le 3 j (fun b => ?_) (fun b => ?_))
  · rw [if_pos (by rw [decide_eq_false (by omega : ¬ i < 3), decide_eq_false (by omega : ¬ j < 3)]), Nat.add_zero] at H1
    exact br_t rfl (pk_eq i j H0 H1)
  · rw [if_neg (by rw [decide_eq_false (by omega : ¬ i < 3), decide_eq_true (by omega : j < 3)]; decide)] at H1
    exact br_f (by decide) (nm_r (by rw [zt_l6, nI_add]) (pk_eq i j H0 H1))
  · rw [if_neg (by rw [decide_eq_true (by omega : i < 3), decide_eq_false (by omega : ¬ j < 3)]; decide)] at H1
    exact br_f (by decide) (nm_r (by rw [zt_l6, nI_add]) (pk_eq i j H0 H1))
  · rw [if_pos (by rw [decide_eq_true (by omega : i < 3), decide_eq_true (by omega : j < 3)]), Nat.add_zero] at H1
    exact br_t rfl (pk_eq i j H0 H1)
theorem zt_way {post : Int32 → Prop} {x : Int32} {i j : Nat} (hi : i < 5) (hj : j < 5) (H : post (nI (zt_d (zt_l x) i j))) : wpL_way post () x (nI i) (nI j) := by
  have H0 : i = j → post 0 := by
    intro e
    rw [e, zt_d_self] at H
    exact H
  have H1 : i ≠ j → post (nI (zt_l x i + zt_l x j + (if decide (i < 2) = decide (j < 2) then 0 else zt_l x 5) + (if decide (i < 3) = decide (j < 3) then 0 else zt_l x 6))) := by
    intro e
    rw [zt_dv (zt_l x) i hi j hj e] at H
    exact H
  refine nm_r (e' := nI (zt_l x i + zt_l x j)) (by rw [(zt_lb x i).1, (zt_lb x j).1, nI_add]) ?_
  refine pk_le 2 i (fun a => pk_le 2 j (fun b => ?_) (fun b => ?_)) (fun a => pk_le 2 j (fun b => ?_) (fun b => ?_))
  · rw [if_pos (by rw [decide_eq_false (by omega : ¬ i < 2), decide_eq_false (by omega : ¬ j < 2)]), Nat.add_zero] at H1
    exact br_t rfl (zt_w51 hi hj H0 H1)
  · rw [if_neg (by rw [decide_eq_false (by omega : ¬ i < 2), decide_eq_true (by omega : j < 2)]; decide)] at H1
    exact br_f (by decide) (nm_r (by rw [zt_l5, nI_add]) (zt_w51 hi hj H0 H1))
  · rw [if_neg (by rw [decide_eq_true (by omega : i < 2), decide_eq_false (by omega : ¬ j < 2)]; decide)] at H1
    exact br_f (by decide) (nm_r (by rw [zt_l5, nI_add]) (zt_w51 hi hj H0 H1))
  · rw [if_pos (by rw [decide_eq_true (by omega : i < 2), decide_eq_true (by omega : j < 2)]), Nat.add_zero] at H1
    exact br_t rfl (zt_w51 hi hj H0 H1)
section
variable {c kn fo fr : Int32} {a1 a2 a3 a4 a5 a6 : Nat → Int32}
theorem zt_put0 {post : St2 → Prop} {i j v : Nat} (hi : i < 7) (hj : j < 7) (hv : v < 128) (H : post (c, 0, fo, fr, upd (upd a1 (7 * i + j) (nI v)) (7 * j + i) (nI v), a2, a3, a4, a5, a6)) :
    wpX_put post (c, kn, fo, fr, a1, a2, a3, a4, a5, a6) (nI i) (nI j) (nI v) := by
  unfold wpX_put
  dsimp only
  rw [zt_ix, zt_ix, nI_clamp (by omega), nI_clamp (by omega), zt_byte v hv]
  exact ⟨vp_in_nI (by omega) (by decide), nm_e ⟨vp_in_nI (by omega) (by decide), nm_e H⟩⟩
theorem zt_miss {post : Int32 → Prop} {i n : Nat} (hi : i < n) (hn : n < 100) (H : post 0) : wpX_missing post (nI n, kn, fo, fr, a1, a2, a3, a4, a5, a6) (nI i) :=
  br_f (nI_pos (by omega)) (br_t (nI_lt hi (by omega)) H)
theorem zt_set {post : Int32 → St2 → Prop} {i j n v : Nat} (hi : i < n) (hj : j < n) (hn : n ≤ 7) (hij : i ≠ j) (hv : v ≤ 60)
    (H : post (a1 (7 * i + j)) (nI n, 0, fo, fr, upd (upd a1 (7 * i + j) (nI v)) (7 * j + i) (nI v), a2, a3, a4, a5, a6)) :
    wpX_set post (nI n, kn, fo, fr, a1, a2, a3, a4, a5, a6) (nI i) (nI j) (nI v) := by
  unfold wpX_set
  refine zt_miss hi (by omega) (br_t rfl (zt_miss hj (by omega) (br_t rfl (pk_eq i j (fun z => absurd z hij) (fun _ => br_f (nI_pos (by omega)) (br_t (nI_le (b := 60) hv (by decide)) ?_))))))
  exact zt_get (by omega) (zt_put0 (by omega) (by omega) (by omega) H)
theorem zt_distance {post : Int32 → Prop} {i j : Nat} (hi : i < 5) (hj : j < 5) (H : post (a1 (7 * i + j))) : wpX_distance post (nI 5, kn, fo, fr, a1, a2, a3, a4, a5, a6) (nI i) (nI j) := by
  unfold wpX_distance
  exact zt_missing hi (br_t rfl (zt_missing hj (br_t rfl (zt_get (by omega) H))))
theorem zt_point {post : Int32 → St2 → Prop} {p v : Nat} (hp : p < 7) (hv : v ≤ 60)
    (H : ∀ a1', (∀ i j, i < p → j < p → a1' (7 * i + j) = a1 (7 * i + j)) → a1' (8 * p) = 0 → (∀ i, i < p → a1' (7 * i + p) = nI v ∧ a1' (7 * p + i) = nI v) → post (nI p) (nI (p + 1), 0, fo, fr, a1', a2, a3, a4, a5, a6)) :
    wpX_point post (nI p, kn, fo, fr, a1, a2, a3, a4, a5, a6) (nI v) := by
  have h8 : 8 * nI p = nI (8 * p) := by rw [show (8 : Int32) = nI 8 from rfl, pk_mul]
  have c8 : (nI (8 * p)).toNatClampNeg = 8 * p := nI_clamp (by omega)
  refine br_f (nI_pos (by omega)) (br_t (nI_le (b := 60) hv (by decide)) (pk_eq p 7 (fun z => absurd z (by omega)) (fun _ => ?_)))
  rw [h8, c8]
  refine ⟨vp_in_nI (by omega) (by decide), nm_e ?_⟩
  refine pk_loop (σ := Int32 × (Nat → Int32)) (fun n k s => wX_point_42 post (nI v) n (nI k) (nI p) s.1 fo fr s.2 a2 a3 a4 a5 a6) (fun k s => (∀ i j, i < p → j < p → s.2 (7 * i + j) = a1 (7 * i + j)) ∧ s.2 (8 * p) = 0 ∧ (∀ i, i < k → s.2 (7 * i + p) = nI v ∧ s.2 (7 * p + i) = nI v)) p 0 (kn, upd a1 (8 * p) 0) (Nat.zero_le _) ⟨?_, pk_us, fun i hi => absurd hi (Nat.not_lt_zero i)⟩ ?_ ?_
  · intro i j hi hj
    exact pk_un (by omega)
  · intro n s h
    refine pk_le p p (fun _ => nm_r (nI_1 p) ?_) (fun z => absurd z (by omega))
    rw [nI_pred]
    exact H s.2 h.1 h.2.1 h.2.2
  · intro n k s hk h hw
    refine pk_le p k (fun z => absurd z (by omega)) (fun _ => zt_put0 (by omega) hp (by omega) ?_)
    refine nm_r (nI_1 k) (hw (0, upd (upd s.2 (7 * k + p) (nI v)) (7 * p + k) (nI v)) ⟨?_, ?_, ?_⟩)
    · intro i j hi hj
      dsimp only
      rw [pk_un (by omega), pk_un (by omega), h.1 i j hi hj]
    · dsimp only
      rw [pk_un (by omega), pk_un (by omega), h.2.1]
    · intro i hi
      dsimp only
      by_cases e : i = k
      · subst e
        constructor
        · rw [pk_un (by omega), pk_us]
        · rw [pk_us]
      · have := h.2.2 i (by omega)
        constructor
        · rw [pk_un (by omega), pk_un (by omega), this.1]
        · rw [pk_un (by omega), pk_un (by omega), this.2]
theorem zt_pointBad {post : Int32 → St2 → Prop} {p v : Nat} (hv : 60 < v) (hv' : v < 1000) (H : post (-1000) (c, kn, fo, fr, a1, a2, a3, a4, a5, a6)) :
    wpX_point post (c, kn, fo, fr, a1, a2, a3, a4, a5, a6) (nI v) :=
  br_f (nI_pos (by omega)) (br_f (nI_ge (a := 60) hv (by omega)) H)
end
end
section
/-! move, and its count against the law's -/
abbrev zt_okv (y : Int32) (d : Nat) : Prop := ¬ nI d + y < 0 ∧ ¬ 60 < nI d + y
/-- place (i, j) has been moved by the first k turns -/
def zt_Tk (l : Nat → Nat) (s : Nat) (y : Int32) (k i j : Nat) : Prop := ((zt_b s i = 1 ∧ zt_b s j = 0 ∧ 5 * i + j < k) ∨ (zt_b s j = 1 ∧ zt_b s i = 0 ∧ 5 * j + i < k)) ∧ zt_okv y (zt_d l i j)
def zt_MV (l : Nat → Nat) (s : Nat) (y : Int32) (k : Nat) (a1 : Nat → Int32) : Prop := ∀ i j, i < 5 → j < 5 → (zt_Tk l s y k i j → a1 (7 * i + j) = nI (zt_d l i j) + y) ∧ (¬ zt_Tk l s y k i j → a1 (7 * i + j) = nI (zt_d l i j))
theorem zt_MV0 {l : Nat → Nat} {s : Nat} {y : Int32} {a1 : Nat → Int32} (h : zt_M l 5 a1) : zt_MV l s y 0 a1 := by
  intro i j hi hj
  refine ⟨fun t => ?_, fun _ => h i j hi hj⟩
  rcases t.1 with z | z
  · exact absurd z.2.2 (by omega)
  · exact absurd z.2.2 (by omega)
theorem zt_Tsame {l : Nat → Nat} {s : Nat} {y : Int32} {k i j : Nat} (hi : i < 5) (hj : j < 5) (h1 : 5 * i + j = k → zt_b s i = 1 → zt_b s j = 0 → ¬ zt_okv y (zt_d l i j)) (h2 : 5 * j + i = k → zt_b s j = 1 → zt_b s i = 0 → ¬ zt_okv y (zt_d l i j)) :
    zt_Tk l s y (k + 1) i j ↔ zt_Tk l s y k i j := by
  constructor
  · rintro ⟨z | z, o⟩
    · by_cases e : 5 * i + j = k
      · exact absurd o (h1 e z.1 z.2.1)
      · exact ⟨Or.inl ⟨z.1, z.2.1, by omega⟩, o⟩
    · by_cases e : 5 * j + i = k
      · exact absurd o (h2 e z.1 z.2.1)
      · exact ⟨Or.inr ⟨z.1, z.2.1, by omega⟩, o⟩
  · rintro ⟨z | z, o⟩
    · exact ⟨Or.inl ⟨z.1, z.2.1, by omega⟩, o⟩
    · exact ⟨Or.inr ⟨z.1, z.2.1, by omega⟩, o⟩
theorem zt_MVs {l : Nat → Nat} {s : Nat} {y : Int32} {k : Nat} {a1 : Nat → Int32} (h : zt_MV l s y k a1) (hn : zt_b s (k / 5) = 1 → zt_b s (k % 5) = 0 → ¬ zt_okv y (zt_d l (k / 5) (k % 5))) : zt_MV l s y (k + 1) a1 := by
  intro i j hi hj
  rw [zt_Tsame hi hj]
  · exact h i j hi hj
  · intro e z1 z2
    have e1 : k / 5 = i := by omega
    have e2 : k % 5 = j := by omega
    rw [e1, e2] at hn
    exact hn z1 z2
  · intro e z1 z2
    have e1 : k / 5 = j := by omega
    have e2 : k % 5 = i := by omega
    rw [e1, e2, zt_d_sym l j i] at hn
    exact hn z1 z2
theorem zt_MVp {l : Nat → Nat} {s : Nat} {y : Int32} {k p q : Nat} {a1 : Nat → Int32} (h : zt_MV l s y k a1) (hk : k < 25) (ep : k / 5 = p) (eq : k % 5 = q) (h1 : zt_b s p = 1) (h2 : zt_b s q = 0) (ho : zt_okv y (zt_d l p q)) :
    zt_MV l s y (k + 1) (upd (upd a1 (7 * p + q) (nI (zt_d l p q) + y)) (7 * q + p) (nI (zt_d l p q) + y)) := by
  have hpq : p ≠ q := by
    intro e
    rw [e, h2] at h1
    exact absurd h1 (by decide)
  have hp5 : p < 5 := by omega
  have hq5 : q < 5 := by omega
  intro i j hi hj
  by_cases e1 : i = p ∧ j = q
  · obtain ⟨rfl, rfl⟩ := e1
    refine ⟨fun _ => ?_, fun n => absurd ⟨Or.inl ⟨h1, h2, by omega⟩, ho⟩ n⟩
    rw [pk_un (by omega), pk_us]
  · by_cases e2 : i = q ∧ j = p
    · obtain ⟨rfl, rfl⟩ := e2
      rw [zt_d_sym l j i] at ho ⊢
      refine ⟨fun _ => ?_, fun n => absurd ⟨Or.inr ⟨h1, h2, by omega⟩, ho⟩ n⟩
      rw [pk_us]
    · rw [pk_un (by omega), pk_un (by omega), zt_Tsame hi hj]
      · exact h i j hi hj
      · intro e _ _
        exact absurd ⟨by omega, by omega⟩ e1
      · intro e _ _
        exact absurd ⟨by omega, by omega⟩ e2
def zt_cm (l : Nat → Nat) (s : Nat) (y : Int32) (m : Nat) : Bool := decide (zt_b s (m / 5) = 1 ∧ zt_b s (m % 5) = 0 ∧ zt_okv y (zt_d l (m / 5) (m % 5)) ∧ ¬ y = 0)
theorem zt_cntS (P : Nat → Bool) (k : Nat) : zt_cnt P (k + 1) = zt_cnt P k + (if P k = true then 1 else 0) := rfl
section
variable {c kn fo fr : Int32} {a1 a2 a3 a4 a5 a6 : Nat → Int32}
theorem zt_moveBad {post : Int32 → St2 → Prop} {x y : Int32} (h : y < (-60) ∨ ¬ y ≤ 60) (H : post (-1000) (c, kn, fo, fr, a1, a2, a3, a4, a5, a6)) : wpX_move post (c, kn, fo, fr, a1, a2, a3, a4, a5, a6) x y := by
  refine br_c (fun _ => H) (fun z => ?_)
  rcases h with h | h
  · exact absurd h z
  · exact br_f h H
theorem zt_move {post : Int32 → St2 → Prop} {l : Nat → Nat} {s : Nat} {y : Int32} (hs : s < 32) (h1 : ¬ y < (-60)) (h2 : y ≤ 60) (hM : zt_M l 5 a1)
    (H : ∀ kn' a1', zt_MV l s y 25 a1' → post (nI (zt_cnt (zt_cm l s y) 25)) (nI 5, kn', fo, fr, a1', a2, a3, a4, a5, a6)) :
    wpX_move post (nI 5, kn, fo, fr, a1, a2, a3, a4, a5, a6) (nI s) y := by
  refine br_f h1 (br_t h2 ?_)
  show ∃ fu21 : Nat, wX_move_21 post (nI s) y fu21 (nI 0) (nI 0) (nI 5) kn fo fr a1 a2 a3 a4 a5 a6
  refine pk_loop (σ := Int32 × (Nat → Int32)) (fun n k t => wX_move_21 post (nI s) y n (nI (zt_cnt (zt_cm l s y) k)) (nI k) (nI 5) t.1 fo fr t.2 a2 a3 a4 a5 a6) (fun k t => zt_MV l s y k t.2) 25 0 (kn, a1) (Nat.zero_le _) (zt_MV0 hM) ?_ ?_
  · intro n t h
    exact pk_le 25 25 (fun _ => H t.1 t.2 h) (fun z => absurd z (by omega)) (pk_mul 5 5)
  · intro n k t hk h hw
    have skip : ¬ (zt_b s (k / 5) = 1 ∧ zt_b s (k % 5) = 0 ∧ zt_okv y (zt_d l (k / 5) (k % 5))) → ∀ x4' : Int32, x4' = nI k + 1 → wX_move_21 post (nI s) y n (nI (zt_cnt (zt_cm l s y) k)) x4' (nI 5) t.1 fo fr t.2 a2 a3 a4 a5 a6 := by
      intro hn
      have w := hw t (zt_MVs h (fun z1 z2 z3 => hn ⟨z1, z2, z3⟩))
      rw [zt_cntS, if_neg (fun z => hn (by have z' := of_decide_eq_true z; exact ⟨z'.1, z'.2.1, z'.2.2.1⟩)), Nat.add_zero] at w
      exact nm_r (nI_1 k) w
    refine pk_le 25 k (fun z => absurd z (by omega)) (fun _ => ⟨zt_5, nm_r (pk_div (by omega) (by decide) (by decide)) ⟨zt_5, nm_r (pk_rem (by omega) (by decide) (by decide)) ?_⟩⟩) (pk_mul 5 5)
    refine zt_get (by omega) (nm_e (ek_if (zt_bit1 hs (by omega)) (fun p1 => ek_if (zt_bit0 hs (by omega)) (fun p2 => ?_) (fun p2 => skip (fun z => p2 z.2.1))) (fun p1 => skip (fun z => p1 z.1))))
    have hv : t.2 (7 * (k / 5) + k % 5) = nI (zt_d l (k / 5) (k % 5)) := by
      refine (h (k / 5) (k % 5) (by omega) (by omega)).2 (fun z => ?_)
      rcases z.1 with z | z
      · exact absurd z.2.2 (by omega)
      · rw [p1] at z
        exact absurd z.2.1 (by decide)
    rw [hv]
    refine br_c (fun q => skip (fun z => z.2.2.1 q)) (fun q => br_c (fun q2 => skip (fun z => z.2.2.2 q2)) (fun q2 => ?_))
    obtain ⟨v, hv60, ev⟩ := nI_of2 (M := 60) (n := 60) (by decide) q (Int32.not_lt.mp q2)
    rw [ev]
    refine zt_put0 (by omega) (by omega) (by omega) ?_
    rw [← ev]
    have w := hw (0, upd (upd t.2 (7 * (k / 5) + k % 5) (nI (zt_d l (k / 5) (k % 5)) + y)) (7 * (k % 5) + k / 5) (nI (zt_d l (k / 5) (k % 5)) + y)) (zt_MVp h hk rfl rfl p1 p2 ⟨q, q2⟩)
    rw [zt_cntS] at w
    refine br_c (fun y0 => ?_) (fun y0 => ?_)
    · rw [if_neg (fun z => (of_decide_eq_true z).2.2.2 y0), Nat.add_zero] at w
      exact nm_r (nI_1 k) w
    · rw [if_pos (show zt_cm l s y k = true from decide_eq_true ⟨p1, p2, ⟨q, q2⟩, y0⟩)] at w
      exact nm_r (nI_1 _) (nm_r (nI_1 k) w)
end
/-- the law counts pairs p < q -/
def zt_fq (l : Nat → Nat) (s : Nat) (y : Int32) (p q : Nat) : Bool := decide (¬ zt_b s p = zt_b s q ∧ zt_okv y (zt_d l p q) ∧ ¬ y = 0)
def zt_gg (P : Nat → Bool) (m : Nat) : Nat := if P m = true then 1 else 0
def zt_h (f : Nat → Nat → Bool) (p q : Nat) : Nat := if p < q ∧ f p q = true then 1 else 0
def zt_rc (f : Nat → Nat → Bool) (p : Nat) : Nat → Nat
  | 0 => 0
  | q + 1 => zt_rc f p q + zt_h f p q
def zt_tc (f : Nat → Nat → Bool) : Nat → Nat
  | 0 => 0
  | p + 1 => zt_tc f p + zt_rc f p 5
theorem zt_rc0 (f : Nat → Nat → Bool) (p : Nat) : ∀ q, q ≤ p + 1 → zt_rc f p q = 0
  | 0, _ => rfl
  | q + 1, h => by
    have e : zt_h f p q = 0 := if_neg (fun z => absurd z.1 (by omega))
    show zt_rc f p q + zt_h f p q = 0
    rw [zt_rc0 f p q (by omega), e]
theorem zt_h0 (f : Nat → Nat → Bool) {p q : Nat} (h : q ≤ p) : zt_h f p q = 0 := if_neg (fun z => absurd z.1 (by omega))
theorem zt_pair (l : Nat → Nat) (s : Nat) (y : Int32) {p q : Nat} (h : p < q) (hq : q < 5) : zt_gg (zt_cm l s y) (5 * p + q) + zt_gg (zt_cm l s y) (5 * q + p) = zt_h (zt_fq l s y) p q := by
  unfold zt_gg zt_h zt_cm zt_fq
  rw [show (5 * p + q) / 5 = p by omega, show (5 * p + q) % 5 = q by omega, show (5 * q + p) / 5 = q by omega, show (5 * q + p) % 5 = p by omega, zt_d_sym l q p]
  simp only [decide_eq_true_eq]
  by_cases o : zt_okv y (zt_d l p q) ∧ ¬ y = 0
  · rcases zt_b_01 s p with b1 | b1 <;> rcases zt_b_01 s q with b2 | b2 <;> simp [b1, b2, o.1, o.2, h]
  · rw [if_neg (fun z => o z.2.2), if_neg (fun z => o z.2.2), if_neg (fun z => o z.2.2)]
theorem zt_diag (l : Nat → Nat) (s : Nat) (y : Int32) {p : Nat} (hp : p < 5) : zt_gg (zt_cm l s y) (5 * p + p) = 0 := by
  refine if_neg (fun z => ?_)
  have z' := of_decide_eq_true z
  rw [show (5 * p + p) / 5 = p by omega, show (5 * p + p) % 5 = p by omega] at z'
  have := z'.1
  have := z'.2.1
  omega
theorem zt_counts (l : Nat → Nat) (s : Nat) (y : Int32) : zt_cnt (zt_cm l s y) 25 = zt_tc (zt_fq l s y) 5 := by
  have e1 : zt_cnt (zt_cm l s y) 25 = 0 + zt_gg (zt_cm l s y) 0 + zt_gg (zt_cm l s y) 1 + zt_gg (zt_cm l s y) 2 + zt_gg (zt_cm l s y) 3 + zt_gg (zt_cm l s y) 4 + zt_gg (zt_cm l s y) 5 + zt_gg (zt_cm l s y) 6 + zt_gg (zt_cm l s y) 7 + zt_gg (zt_cm l s y) 8 + zt_gg (zt_cm l s y) 9 + zt_gg (zt_cm l s y) 10 + zt_gg (zt_cm l s y) 11 + zt_gg (zt_cm l s y) 12 + zt_gg (zt_cm l s y) 13 + zt_gg (zt_cm l s y) 14 + zt_gg (zt_cm l s y) 15 + zt_gg (zt_cm l s y) 16 + zt_gg (zt_cm l s y) 17 + zt_gg (zt_cm l s y) 18 + zt_gg (zt_cm l s y) 19 + zt_gg (zt_cm l s y) 20 + zt_gg (zt_cm l s y) 21 + zt_gg (zt_cm l s y) 22 + zt_gg (zt_cm l s y) 23 + zt_gg (zt_cm l s y) 24 := rfl
  have e2 : zt_tc (zt_fq l s y) 5 = 0 + (0 + zt_h (zt_fq l s y) 0 0 + zt_h (zt_fq l s y) 0 1 + zt_h (zt_fq l s y) 0 2 + zt_h (zt_fq l s y) 0 3 + zt_h (zt_fq l s y) 0 4) + (0 + zt_h (zt_fq l s y) 1 0 + zt_h (zt_fq l s y) 1 1 + zt_h (zt_fq l s y) 1 2 + zt_h (zt_fq l s y) 1 3 + zt_h (zt_fq l s y) 1 4) + (0 + zt_h (zt_fq l s y) 2 0 + zt_h (zt_fq l s y) 2 1 + zt_h (zt_fq l s y) 2 2 + zt_h (zt_fq l s y) 2 3 + zt_h (zt_fq l s y) 2 4) + (0 + zt_h (zt_fq l s y) 3 0 + zt_h (zt_fq l s y) 3 1 + zt_h (zt_fq l s y) 3 2 + zt_h (zt_fq l s y) 3 3 + zt_h (zt_fq l s y) 3 4) + (0 + zt_h (zt_fq l s y) 4 0 + zt_h (zt_fq l s y) 4 1 + zt_h (zt_fq l s y) 4 2 + zt_h (zt_fq l s y) 4 3 + zt_h (zt_fq l s y) 4 4) := rfl
  have d0 : zt_gg (zt_cm l s y) 0 = 0 := zt_diag l s y (p := 0) (by decide)
  have k00 : zt_h (zt_fq l s y) 0 0 = 0 := zt_h0 _ (by decide)
  have k01 : zt_gg (zt_cm l s y) 1 + zt_gg (zt_cm l s y) 5 = zt_h (zt_fq l s y) 0 1 := zt_pair l s y (p := 0) (q := 1) (by decide) (by decide)
  have k02 : zt_gg (zt_cm l s y) 2 + zt_gg (zt_cm l s y) 10 = zt_h (zt_fq l s y) 0 2 := zt_pair l s y (p := 0) (q := 2) (by decide) (by decide)
  have k03 : zt_gg (zt_cm l s y) 3 + zt_gg (zt_cm l s y) 15 = zt_h (zt_fq l s y) 0 3 := zt_pair l s y (p := 0) (q := 3) (by decide) (by decide)
  have k04 : zt_gg (zt_cm l s y) 4 + zt_gg (zt_cm l s y) 20 = zt_h (zt_fq l s y) 0 4 := zt_pair l s y (p := 0) (q := 4) (by decide) (by decide)
  have d1 : zt_gg (zt_cm l s y) 6 = 0 := zt_diag l s y (p := 1) (by decide)
  have k10 : zt_h (zt_fq l s y) 1 0 = 0 := zt_h0 _ (by decide)
  have k11 : zt_h (zt_fq l s y) 1 1 = 0 := zt_h0 _ (by decide)
  have k12 : zt_gg (zt_cm l s y) 7 + zt_gg (zt_cm l s y) 11 = zt_h (zt_fq l s y) 1 2 := zt_pair l s y (p := 1) (q := 2) (by decide) (by decide)
  have k13 : zt_gg (zt_cm l s y) 8 + zt_gg (zt_cm l s y) 16 = zt_h (zt_fq l s y) 1 3 := zt_pair l s y (p := 1) (q := 3) (by decide) (by decide)
  have k14 : zt_gg (zt_cm l s y) 9 + zt_gg (zt_cm l s y) 21 = zt_h (zt_fq l s y) 1 4 := zt_pair l s y (p := 1) (q := 4) (by decide) (by decide)
  have d2 : zt_gg (zt_cm l s y) 12 = 0 := zt_diag l s y (p := 2) (by decide)
  have k20 : zt_h (zt_fq l s y) 2 0 = 0 := zt_h0 _ (by decide)
  have k21 : zt_h (zt_fq l s y) 2 1 = 0 := zt_h0 _ (by decide)
  have k22 : zt_h (zt_fq l s y) 2 2 = 0 := zt_h0 _ (by decide)
  have k23 : zt_gg (zt_cm l s y) 13 + zt_gg (zt_cm l s y) 17 = zt_h (zt_fq l s y) 2 3 := zt_pair l s y (p := 2) (q := 3) (by decide) (by decide)
  have k24 : zt_gg (zt_cm l s y) 14 + zt_gg (zt_cm l s y) 22 = zt_h (zt_fq l s y) 2 4 := zt_pair l s y (p := 2) (q := 4) (by decide) (by decide)
  have d3 : zt_gg (zt_cm l s y) 18 = 0 := zt_diag l s y (p := 3) (by decide)
  have k30 : zt_h (zt_fq l s y) 3 0 = 0 := zt_h0 _ (by decide)
  have k31 : zt_h (zt_fq l s y) 3 1 = 0 := zt_h0 _ (by decide)
  have k32 : zt_h (zt_fq l s y) 3 2 = 0 := zt_h0 _ (by decide)
  have k33 : zt_h (zt_fq l s y) 3 3 = 0 := zt_h0 _ (by decide)
  have k34 : zt_gg (zt_cm l s y) 19 + zt_gg (zt_cm l s y) 23 = zt_h (zt_fq l s y) 3 4 := zt_pair l s y (p := 3) (q := 4) (by decide) (by decide)
  have d4 : zt_gg (zt_cm l s y) 24 = 0 := zt_diag l s y (p := 4) (by decide)
  have k40 : zt_h (zt_fq l s y) 4 0 = 0 := zt_h0 _ (by decide)
  have k41 : zt_h (zt_fq l s y) 4 1 = 0 := zt_h0 _ (by decide)
  have k42 : zt_h (zt_fq l s y) 4 2 = 0 := zt_h0 _ (by decide)
  have k43 : zt_h (zt_fq l s y) 4 3 = 0 := zt_h0 _ (by decide)
  have k44 : zt_h (zt_fq l s y) 4 4 = 0 := zt_h0 _ (by decide)
  rw [e1, e2]
  omega
end
section
/-! the law's last loops: what move has done -/
theorem zt_sh5 : ∀ p, p < 5 → ((nI p &&& 31).toBitVec.smod 32).toNat = p := by decide +kernel
theorem zt_ti (y : Int32) : y.toInt = if 2 * y.toBitVec.toNat < 2 ^ 32 then (y.toBitVec.toNat : Int) else (y.toBitVec.toNat : Int) - ((2 ^ 32 : Nat) : Int) := BitVec.toInt_eq_toNat_cond y.toBitVec
theorem zt_bitx (x : Int32) {p : Nat} (hp : p < 5) : ((x >>> (nI p &&& 31)) &&& 1) = nI (zt_b (x.toBitVec.toNat % 32) p) := by
  rw [pk_and (x >>> (nI p &&& 31)) (m := 1) 1 (by decide)]
  congr 1
  have h := pk_shr x (nI p &&& 31) p (zt_sh5 p hp)
  rw [zt_ti, zt_ti x, Int.shiftRight_eq_div_pow] at h
  have b1 := x.toBitVec.isLt
  have b2 := (x >>> (nI p &&& 31)).toBitVec.isLt
  generalize (x >>> (nI p &&& 31)).toBitVec.toNat = w at h b2 ⊢
  generalize x.toBitVec.toNat = v at h b1 ⊢
  unfold zt_b
  rcases p with _ | _ | _ | _ | _ | p
  all_goals first | (exfalso; omega) | skip
  all_goals (simp only [Nat.zero_add, Nat.reduceAdd, Nat.reducePow] at h ⊢)
  all_goals (split at h <;> split at h <;> omega)
theorem zt_bitxE (x : Int32) {p q : Nat} (hp : p < 5) (hq : q < 5) : ((x >>> (nI p &&& 31)) &&& 1) = ((x >>> (nI q &&& 31)) &&& 1) ↔ zt_b (x.toBitVec.toNat % 32) p = zt_b (x.toBitVec.toNat % 32) q := by
  rw [zt_bitx x hp, zt_bitx x hq]
  rcases zt_b_01 (x.toBitVec.toNat % 32) p with h | h <;> rcases zt_b_01 (x.toBitVec.toNat % 32) q with h' | h' <;> rw [h, h'] <;> decide
/-- the law's own 'fits' -/
abbrev zt_ff (l : Nat → Nat) (s : Nat) (y : Int32) (p q : Nat) : Prop := ¬ y < (-60) ∧ ¬ 60 < y ∧ ¬ zt_b s p = zt_b s q ∧ ¬ nI (zt_d l p q) + y < 0 ∧ ¬ 60 < nI (zt_d l p q) + y ∧ ¬ y = 0
def zt_fb (l : Nat → Nat) (s : Nat) (y : Int32) (p q : Nat) : Bool := decide (zt_ff l s y p q)
section
variable {post : Int32 → St0 → Prop} {mc ms kc ks : Nat} {x3 x4 x5 x7 x12 x17 : Int32} {kn fo fr : Int32} {a1 a2 a3 a4 a5 a6 : Nat → Int32}
theorem zt_L626 {z : Int32} (HP : post 1 ()) : wL_lawOf_626 post mc ms x5 z z kc ks (nI 5) kn fo fr a1 a2 a3 a4 a5 a6 := by
  obtain ⟨k, hk, e⟩ := pk_andE x5 (m := 63) 6 (by decide)
  have hk' : k < 64 := hk
  refine br_t rfl ?_
  rw [e]
  by_cases h : k ≤ 60
  · exact zt_point (p := 5) (by decide) h (fun b1 _ _ _ => pk_le k 60 (fun _ => br_t rfl HP) (fun z => absurd z (by omega)))
  · exact zt_pointBad (p := 5) (by omega) (by omega) (pk_le k 60 (fun z => absurd z h) (fun _ => br_t rfl HP))
theorem zt_L546 {J460 J472 : Int32 → Int32 → Prop} {p q m d : Nat} (hp : p < 5) (hq : q < 5) (ha : a1 (7 * p + q) = nI d) (HJ : J472 (nI m) (nI (q + 1))) :
    wL_lawOf_546 post mc ms J460 J472 x3 x4 x5 x7 x12 (nI m) (nI p) (nI q) (nI d) x17 kc ks (nI 5) kn fo fr a1 a2 a3 a4 a5 a6 := by
  unfold wL_lawOf_546 wL_lawOf_547
  exact zt_distance hp hq (br_t rfl (br_t ha (br_t rfl (nm_r (show nI m + 0 = nI m from nI_add m 0) (nm_r (nI_1 q) HJ)))))
theorem zt_L547 {J460 J472 : Int32 → Int32 → Prop} {p q m : Nat} {x16 : Int32} (hp : p < 5) (hq : q < 5) (ha : a1 (7 * p + q) = x17) (HJ : J472 (nI (m + 1)) (nI (q + 1))) :
    wL_lawOf_547 post mc ms J460 J472 x3 x4 x5 x7 x12 (nI m) (nI p) (nI q) x16 x17 1 kc ks (nI 5) kn fo fr a1 a2 a3 a4 a5 a6 := by
  unfold wL_lawOf_547
  exact zt_distance hp hq (br_f (by decide) (br_t ha (br_f (by decide) (nm_r (nI_1 m) (nm_r (nI_1 q) HJ)))))
theorem zt_L472 {J460 : Int32 → Int32 → Prop} {p m : Nat} (hp : p < 5)
    (hF : ∀ q, p < q → q < 5 → (zt_ff (zt_l x7) (x3.toBitVec.toNat % 32) x4 p q → a1 (7 * p + q) = nI (zt_d (zt_l x7) p q) + x4) ∧ (¬ zt_ff (zt_l x7) (x3.toBitVec.toNat % 32) x4 p q → a1 (7 * p + q) = nI (zt_d (zt_l x7) p q)))
    (HJ : J460 (nI (m + zt_rc (zt_fb (zt_l x7) (x3.toBitVec.toNat % 32) x4) p 5)) (nI (p + 1))) :
    ∃ fu : Nat, wL_lawOf_472 post mc ms J460 x3 x4 x5 x7 x12 (nI p) kc ks (nI 5) kn fo fr a1 a2 a3 a4 a5 a6 fu (nI m) (nI (p + 1)) := by
  have key := pk_loop (σ := Unit) (fun n q _ => wL_lawOf_472 post mc ms J460 x3 x4 x5 x7 x12 (nI p) kc ks (nI 5) kn fo fr a1 a2 a3 a4 a5 a6 n (nI (m + zt_rc (zt_fb (zt_l x7) (x3.toBitVec.toNat % 32) x4) p q)) (nI q)) (fun q _ => p < q) 5 (p + 1) () (by omega) (Nat.lt_succ_self p) ?_ ?_
  · rw [zt_rc0 _ p (p + 1) (Nat.le_refl _), Nat.add_zero] at key
    exact key
  · intro n _ _
    exact pk_le 5 5 (fun _ => nm_r (nI_1 p) HJ) (fun z => absurd z (by omega))
  · intro n q _ hq hpq hw
    have t := hw () (by omega)
    have e : zt_rc (zt_fb (zt_l x7) (x3.toBitVec.toNat % 32) x4) p (q + 1) = zt_rc (zt_fb (zt_l x7) (x3.toBitVec.toNat % 32) x4) p q + zt_h (zt_fb (zt_l x7) (x3.toBitVec.toNat % 32) x4) p q := rfl
    rw [e] at t
    have hq' := hF q hpq hq
    have no : ¬ zt_ff (zt_l x7) (x3.toBitVec.toNat % 32) x4 p q → ∀ y17 : Int32, wL_lawOf_546 post mc ms J460 (wL_lawOf_472 post mc ms J460 x3 x4 x5 x7 x12 (nI p) kc ks (nI 5) kn fo fr a1 a2 a3 a4 a5 a6 n) x3 x4 x5 x7 x12 (nI (m + zt_rc (zt_fb (zt_l x7) (x3.toBitVec.toNat % 32) x4) p q)) (nI p) (nI q) (nI (zt_d (zt_l x7) p q)) y17 kc ks (nI 5) kn fo fr a1 a2 a3 a4 a5 a6 := by
      intro hn y17
      rw [show zt_h (zt_fb (zt_l x7) (x3.toBitVec.toNat % 32) x4) p q = 0 from if_neg (fun z => hn (of_decide_eq_true z.2)), Nat.add_zero] at t
      exact zt_L546 hp hq (hq'.2 hn) t
    refine pk_le 5 q (fun z => absurd z (by omega)) (fun _ => zt_way hp hq (nm_e ?_))
    refine br_c (fun g => no (fun z => z.1 g) _) (fun g1 => br_c (fun g => no (fun z => z.2.1 g) _) (fun g2 => ek_if (zt_bitxE x3 hp hq) (fun g => no (fun z => z.2.2.1 g) _) (fun g3 => br_c (fun g => no (fun z => z.2.2.2.1 g) _) (fun g4 => br_c (fun g => no (fun z => z.2.2.2.2.1 g) _) (fun g5 => br_c (fun g => no (fun z => z.2.2.2.2.2 g) _) (fun g6 => ?_))))))
    have yes : zt_ff (zt_l x7) (x3.toBitVec.toNat % 32) x4 p q := ⟨g1, g2, g3, g4, g5, g6⟩
    rw [show zt_h (zt_fb (zt_l x7) (x3.toBitVec.toNat % 32) x4) p q = 1 from if_pos ⟨hpq, decide_eq_true yes⟩, ← Nat.add_assoc] at t
    exact zt_L547 hp hq (hq'.1 yes) t
theorem zt_L460 (HP : post 1 ())
    (hF : ∀ p q, p < q → q < 5 → (zt_ff (zt_l x7) (x3.toBitVec.toNat % 32) x4 p q → a1 (7 * p + q) = nI (zt_d (zt_l x7) p q) + x4) ∧ (¬ zt_ff (zt_l x7) (x3.toBitVec.toNat % 32) x4 p q → a1 (7 * p + q) = nI (zt_d (zt_l x7) p q)))
    (hR1 : (x4 < (-60) ∨ ¬ x4 ≤ 60) → x12 = -1000) (hR2 : ¬ x4 < (-60) → x4 ≤ 60 → x12 = nI (zt_tc (zt_fb (zt_l x7) (x3.toBitVec.toNat % 32) x4) 5)) :
    ∃ fu : Nat, wL_lawOf_460 post mc ms x3 x4 x5 x7 x12 kc ks (nI 5) kn fo fr a1 a2 a3 a4 a5 a6 fu 0 0 := by
  refine pk_loop (σ := Unit) (fun n p _ => wL_lawOf_460 post mc ms x3 x4 x5 x7 x12 kc ks (nI 5) kn fo fr a1 a2 a3 a4 a5 a6 n (nI (zt_tc (zt_fb (zt_l x7) (x3.toBitVec.toNat % 32) x4) p)) (nI p)) (fun _ _ => True) 5 0 () (by decide) trivial ?_ ?_
  · intro n _ _
    refine pk_le 5 5 (fun _ => br_c (fun g => ?_) (fun g1 => br_c (fun g => ?_) (fun g => ?_))) (fun z => absurd z (by omega))
    · rw [hR1 (Or.inl g)]
      exact zt_L626 HP
    · rw [hR2 g1 g]
      exact zt_L626 HP
    · rw [hR1 (Or.inr g)]
      exact zt_L626 HP
  · intro n p _ hp _ hw
    exact pk_le 5 p (fun z => absurd z (by omega)) (fun _ => nm_r (nI_1 p) (zt_L472 hp (fun q => hF p q) (hw () trivial)))
theorem zt_L441 (HP : post 1 ()) (hM : zt_M (zt_l x7) 5 a1) : wL_lawOf_441 post mc ms x3 x4 x5 x7 kc ks (nI 5) kn fo fr a1 a2 a3 a4 a5 a6 := by
  unfold wL_lawOf_441
  rw [show x3 &&& 31 = nI (x3.toBitVec.toNat % 32) from pk_and x3 5 (by decide)]
  by_cases h : x4 < (-60) ∨ ¬ x4 ≤ 60
  · refine zt_moveBad h (zt_L460 HP (fun p q hpq hq => ⟨fun f => ?_, fun _ => hM p q (by omega) hq⟩) (fun _ => rfl) (fun g1 g2 => absurd h (fun z => z.elim g1 (fun y => y g2))))
    exact absurd h (fun z => z.elim f.1 (fun y => y (Int32.not_lt.mp f.2.1)))
  · have g1 : ¬ x4 < (-60) := fun z => h (Or.inl z)
    have g2 : x4 ≤ 60 := Classical.byContradiction (fun z => h (Or.inr z))
    have g2' : ¬ 60 < x4 := Int32.not_lt.mpr g2
    have ef : zt_fb (zt_l x7) (x3.toBitVec.toNat % 32) x4 = zt_fq (zt_l x7) (x3.toBitVec.toNat % 32) x4 := by
      funext p q
      unfold zt_fb zt_fq
      rw [decide_eq_decide]
      exact ⟨fun z => ⟨z.2.2.1, ⟨z.2.2.2.1, z.2.2.2.2.1⟩, z.2.2.2.2.2⟩, fun z => ⟨g1, g2', z.1, z.2.1.1, z.2.1.2, z.2.2⟩⟩
    refine zt_move (Nat.mod_lt _ (by decide)) g1 g2 hM (fun kn' b1 hV => zt_L460 HP (fun p q hpq hq => ?_) (fun z => absurd z h) (fun _ _ => ?_))
    · have hv := hV p q (by omega) hq
      have hT : ¬ zt_b (x3.toBitVec.toNat % 32) p = zt_b (x3.toBitVec.toNat % 32) q → zt_okv x4 (zt_d (zt_l x7) p q) → zt_Tk (zt_l x7) (x3.toBitVec.toNat % 32) x4 25 p q := by
        intro hb ho
        refine ⟨?_, ho⟩
        rcases zt_b_01 (x3.toBitVec.toNat % 32) p with b1 | b1 <;> rcases zt_b_01 (x3.toBitVec.toNat % 32) q with b2 | b2
        · exact absurd (b1.trans b2.symm) hb
        · exact Or.inr ⟨b2, b1, by omega⟩
        · exact Or.inl ⟨b1, b2, by omega⟩
        · exact absurd (b1.trans b2.symm) hb
      refine ⟨fun f => hv.1 (hT f.2.2.1 ⟨f.2.2.2.1, f.2.2.2.2.1⟩), fun nf => ?_⟩
      by_cases t : zt_Tk (zt_l x7) (x3.toBitVec.toNat % 32) x4 25 p q
      · rw [hv.1 t]
        have hb : ¬ zt_b (x3.toBitVec.toNat % 32) p = zt_b (x3.toBitVec.toNat % 32) q := by
          intro e
          rcases t.1 with z | z
          · rw [z.1, z.2.1] at e
            exact absurd e (by decide)
          · rw [z.1, z.2.1] at e
            exact absurd e (by decide)
        have y0 : x4 = 0 := Classical.byContradiction (fun y => nf ⟨g1, g2', hb, t.2.1, t.2.2, y⟩)
        rw [y0]
        exact nI_add _ 0
      · exact hv.2 t
    · rw [ef, ← zt_counts]
end
end
section
/-! the law from its top -/
theorem zt_no5 : ∀ m, m < 128 → zt_b m 5 = 1 → zt_b m 6 = 1 → ((zt_Sm m 5).all (zt_agr 5) = false ∧ (zt_Sm m 5).all (zt_agr 11) = false) := by decide +kernel
theorem zt_yes : ∀ e, e < 7 → ∀ t, t ∈ zt_O 5 → zt_agr (zt_tr e) t = true := by decide +kernel
theorem zt_yesA (l : Nat → Nat) {e : Nat} (he : e < 7) : (zt_S l 5).all (zt_agr (zt_tr e)) = true :=
  List.all_eq_true.mpr (fun t ht => zt_yes e he t (List.mem_filter.mp ht).1)
theorem zt_trO : ∀ e, e < 7 → (zt_tr e ∈ zt_O 5 ∧ zt_tr e < 31 ∧ zt_tr e % 2 = 1) := by decide +kernel
theorem zt_V5e (l : Nat → Nat) : ∀ e, e < 7 → zt_V l 5 (zt_tr e) = 2 * l e := by
  obtain ⟨h0, h1, h2, h3, h4, h5, h6⟩ := zt_V5 l
  intro e he
  rcases e with _ | _ | _ | _ | _ | _ | _ | e
  · exact h0
  · exact h1
  · exact h2
  · exact h3
  · exact h4
  · exact h5
  · exact h6
  · exfalso
    omega
theorem zt_V11 (l : Nat → Nat) : zt_V l 5 11 = 0 := by
  refine Nat.eq_zero_of_not_pos (fun h => ?_)
  obtain ⟨e, he, hc, _⟩ := (zt_Vpos l 5 11).mp h
  have k : ∀ e, e < 7 → ¬ zt_tr e % 2 ^ 5 = 11 := by decide +kernel
  exact k e he hc
theorem zt_side : ∀ e, e < 7 → ¬ e = 0 → ¬ e = 5 → ¬ e = 6 → ((31 : Int32) &&& (((1 : Int32) <<< (nI e &&& 31)) ^^^ (-1))) = nI (zt_tr e) := by decide +kernel
def zt_cn (l : Nat → Nat) : Nat → Nat
  | 0 => 0
  | e + 1 => zt_cn l e + min (l e) 1
def zt_wt (l : Nat → Nat) : Nat → Nat
  | 0 => 0
  | e + 1 => zt_wt l e + 2 * l e
theorem zt_cn7 (l : Nat → Nat) : zt_cn l 7 = (zt_S l 5).length := by
  rw [zt_lenS]
  simp only [zt_cn]
  omega
theorem zt_wt7 (l : Nat → Nat) : zt_wt l 7 = 2 * l 0 + 2 * l 1 + 2 * l 2 + 2 * l 3 + 2 * l 4 + 2 * l 5 + 2 * l 6 := by
  simp only [zt_wt]
  omega
section
variable {post : Int32 → St0 → Prop} {mc ms kc ks : Nat} {x0 x1 x2 x3 x4 x5 x7 : Int32} {c kn fo fr : Int32} {a1 a2 a3 a4 a5 a6 : Nat → Int32}
theorem zt_GK {l : Nat → Nat} (g : zt_G l a1 a2 a3) : zt_K l (nI 5) 1 (nI (zt_S l 5).length) a1 a2 a3 := ⟨rfl, g.1, Or.inr ⟨rfl, rfl, g⟩⟩
theorem zt_Sb (l : Nat → Nat) : ∀ s, s ∈ zt_S l 5 → s < 32 := fun _ hs => (zt_Sin (n := 5) (by decide) hs).2.2
theorem zt_L388 (HP : post 1 ()) (g : zt_G (zt_l x7) a1 a2 a3) : wL_lawOf_388 post mc ms x3 x4 x5 x7 kc ks (nI 5) 1 (nI (zt_S (zt_l x7) 5).length) fr a1 a2 a3 a4 a5 a6 := by
  have b5 := (zt_lb x7 5).2
  have b6 := (zt_lb x7 6).2
  refine pk_le (zt_l x7 5) 0 (fun _ => zt_L441 HP g.1) (fun h5 => pk_le (zt_l x7 6) 0 (fun _ => zt_L441 HP g.1) (fun h6 => ?_) (zt_l6 x7)) (zt_l5 x7)
  have m5 : zt_b (zt_mk (zt_l x7)) 5 = 1 := by
    rw [zt_mkb _ 5 (by decide)]
    omega
  have m6 : zt_b (zt_mk (zt_l x7)) 6 = 1 := by
    rw [zt_mkb _ 6 (by decide)]
    omega
  obtain ⟨n5, n11⟩ := zt_no5 _ (zt_mk_lt (zt_l x7)) m5 m6
  have e5 : ¬ (zt_S (zt_l x7) 5).all (zt_agr 5) = true := fun z => absurd (n5.symm.trans z) (by decide)
  have e11 : ¬ (zt_S (zt_l x7) 5).all (zt_agr 11) = true := fun z => absurd (n11.symm.trans z) (by decide)
  refine zt_agrees (s := 5) (zt_lle x7) (zt_GK g) (by decide) (by decide) (fun fr1 b2 b3 b4 b5 g1 => ?_)
  rw [if_neg e5]
  refine br_t rfl (zt_agrees (s := 11) (zt_lle x7) (zt_GK g1) (by decide) (by decide) (fun fr2 c2 c3 c4 c5 g2 => ?_))
  rw [if_neg e11]
  refine br_t rfl (zt_agreeing (zt_Slen (by decide)) (zt_Sb _) g2.2.1 ?_)
  have e7 : zt_gs (zt_S (zt_l x7) 5) ((zt_S (zt_l x7) 5).length + 1) = 7 := zt_gsB _ (zt_mk_lt (zt_l x7)) m5 m6
  rw [e7]
  exact br_t (by decide) (zt_L441 HP g2.1)
theorem zt_L354 {z : Int32} (HP : post 1 ()) (g : zt_G (zt_l x7) a1 a2 a3) : wL_lawOf_354 post mc ms x3 x4 x5 x7 z z kc ks (nI 5) 1 (nI (zt_S (zt_l x7) 5).length) fr a1 a2 a3 a4 a5 a6 := by
  refine br_t rfl (zt_smooth (zt_lle x7) g (fun b6 => br_t rfl ?_))
  refine zt_index (s := 11) (zt_lle x7) g.1 (by decide) (by decide) (fun r r1 r2 hr => ?_)
  have hu := zt_Rup (by decide) (by decide) (by decide) (by decide) hr
  rw [zt_V11] at hu
  exact ek_if (zt_le0 (by omega) (by omega)) (fun _ => zt_L388 HP g) (fun z => absurd hu z)
theorem zt_L315 {i j : Nat} (HP : post 1 ()) (hi : i < 5) (hj : j < 5) (g : zt_G (zt_l x7) a1 a2 a3) :
    wL_lawOf_315 post mc ms x3 x4 x5 x7 (nI i) (nI j) (nI (zt_S (zt_l x7) 5).length) kc ks (nI 5) 1 (nI (zt_S (zt_l x7) 5).length) fr a1 a2 a3 a4 a5 a6 := by
  have hd := zt_d_le (zt_lle x7) i j
  unfold wL_lawOf_315
  refine zt_edgeOut (br_t rfl (zt_together (zt_lle x7) g hi hj (fun h0 => zt_way hi hj ?_) (fun h0 => zt_way hi hj ?_)))
  · exact pk_eq (zt_d (zt_l x7) i j) 0 (fun _ => zt_L354 HP g) (fun z => absurd h0 z)
  · exact pk_eq (zt_d (zt_l x7) i j) 0 (fun z => absurd z h0) (fun _ => zt_L354 HP g)
theorem zt_L169 {J110 : Int32 → Int32 → Int32 → Int32 → Int32 → Int32 → Int32 → (Nat → Int32) → (Nat → Int32) → (Nat → Int32) → (Nat → Int32) → (Nat → Int32) → (Nat → Int32) → Prop} {x8 x9 : Int32} {e : Nat} (he : e < 7)
    (K : zt_K (zt_l x7) c kn fo a1 a2 a3)
    (HJ : ∀ fr' a2' a3' a4' a5', zt_G (zt_l x7) a1 a2' a3' → J110 (nI (zt_cn (zt_l x7) (e + 1))) (nI (zt_wt (zt_l x7) (e + 1))) (nI (e + 1)) (nI 5) 1 (nI (zt_S (zt_l x7) 5).length) fr' a1 a2' a3' a4' a5' a6) :
    wL_lawOf_169 post mc ms J110 x3 x4 x5 x7 x8 x9 (nI (zt_cn (zt_l x7) e)) (nI (zt_wt (zt_l x7) e)) (nI e) (nI (zt_l x7 e)) (nI (zt_tr e)) kc ks c kn fo fr a1 a2 a3 a4 a5 a6 := by
  have K0 := K
  obtain ⟨hc, hM, _⟩ := K0
  subst hc
  have hl := zt_lle x7
  have hle := hl e he
  obtain ⟨t1, t2, t3⟩ := zt_trO e he
  unfold wL_lawOf_169
  refine zt_index hl hM t2 t3 (fun r r1 r2 hr => ?_)
  have hu := zt_Rup (by decide) (by decide) (by omega) t3 hr
  have hw := zt_Rlow hl (by decide) (by decide) t1 hr
  have er : r = ((2 * zt_l x7 e : Nat) : Int) := by
    rw [← zt_V5e (zt_l x7) e he]
    omega
  refine br_t (by rw [er, ← zt_n, zt_2]) (zt_agrees hl K t2 t3 (fun fr' b2 b3 b4 b5 g => ?_))
  rw [if_pos (zt_yesA _ he)]
  have hj := HJ fr' b2 b3 b4 b5 g
  refine br_t rfl (pk_le (zt_l x7 e) 0 (fun h => ?_) (fun h => ?_))
  · refine nm_r (e' := nI (zt_cn (zt_l x7) (e + 1))) ?_ (nm_r (e' := nI (zt_wt (zt_l x7) (e + 1))) (by rw [zt_2, nI_add]; rfl) (nm_r (nI_1 e) hj))
    rw [show zt_cn (zt_l x7) (e + 1) = zt_cn (zt_l x7) e + 0 from by show zt_cn (zt_l x7) e + min (zt_l x7 e) 1 = _; omega]
    exact nI_add _ 0
  · refine nm_r (e' := nI (zt_cn (zt_l x7) (e + 1))) ?_ (nm_r (e' := nI (zt_wt (zt_l x7) (e + 1))) (by rw [zt_2, nI_add]; rfl) (nm_r (nI_1 e) hj))
    rw [show zt_cn (zt_l x7) (e + 1) = zt_cn (zt_l x7) e + 1 from by show zt_cn (zt_l x7) e + min (zt_l x7 e) 1 = _; omega]
    exact nI_add _ 1
theorem zt_L110 {i j : Nat} (HP : post 1 ()) (hi : i < 5) (hj : j < 5) (K : zt_K (zt_l x7) c kn fo a1 a2 a3) :
    ∃ fu : Nat, wL_lawOf_110 post mc ms x3 x4 x5 x7 (nI i) (nI j) kc ks fu 0 0 0 c kn fo fr a1 a2 a3 a4 a5 a6 := by
  have hl := zt_lle x7
  have hL := zt_Slen (l := zt_l x7) (n := 5) (by decide)
  refine pk_loop (σ := Int32 × Int32 × Int32 × Int32 × (Nat → Int32) × (Nat → Int32) × (Nat → Int32) × (Nat → Int32)) (fun n e s => wL_lawOf_110 post mc ms x3 x4 x5 x7 (nI i) (nI j) kc ks n (nI (zt_cn (zt_l x7) e)) (nI (zt_wt (zt_l x7) e)) (nI e) s.1 s.2.1 s.2.2.1 s.2.2.2.1 a1 s.2.2.2.2.1 s.2.2.2.2.2.1 s.2.2.2.2.2.2.1 s.2.2.2.2.2.2.2 a6)
    (fun _ s => zt_K (zt_l x7) s.1 s.2.1 s.2.2.1 a1 s.2.2.2.2.1 s.2.2.2.2.2.1) 7 0 (c, kn, fo, fr, a2, a3, a4, a5) (by decide) K ?_ ?_
  · rintro n ⟨c', kn', fo', fr', b2, b3, b4, b5⟩ h
    refine pk_le 7 7 (fun _ => ?_) (fun z => absurd z (by omega))
    refine zt_edges hl h (fun fr1 d2 d3 d4 d5 g => br_t (by rw [zt_cn7]) ?_)
    refine zt_weight g (br_t (by rw [zt_wt7]) ?_)
    refine zt_treelike g (br_t rfl ?_)
    refine zt_treeDistance g hi hj (zt_way hi hj (br_t (zt_2 _).symm ?_))
    refine zt_agreeing hL (zt_Sb _) g.2.1 ?_
    have ga : 7 ≤ zt_gs (zt_S (zt_l x7) 5) ((zt_S (zt_l x7) 5).length + 1) ∧ zt_gs (zt_S (zt_l x7) 5) ((zt_S (zt_l x7) 5).length + 1) ≤ 100 := zt_gsA _ (zt_mk_lt (zt_l x7))
    have g7 : (7 : Int32) ≤ zt_i (zt_gs (zt_S (zt_l x7) 5) ((zt_S (zt_l x7) 5).length + 1)) := by
      rw [show (7 : Int32) = zt_i 7 by decide]
      exact (zt_le (by decide) (by decide) (by omega) (by omega)).mpr ga.1
    refine br_t g7 ?_
    rw [zt_cn7]
    refine pk_le (zt_S (zt_l x7) 5).length 1 (fun _ => zt_L315 HP hi hj g) (fun h1 => ?_)
    refine zt_edgeIn (k := 1) g (by omega) (zt_edgeIn (k := 0) g (by omega) ?_)
    have s0 := zt_Sb _ _ (zt_getMem (show 0 < (zt_S (zt_l x7) 5).length by omega))
    have s1 := zt_Sb _ _ (zt_getMem (show 1 < (zt_S (zt_l x7) 5).length by omega))
    have so : (zt_S (zt_l x7) 5).getD 0 0 < (zt_S (zt_l x7) 5).getD 1 0 := zt_ord _ (zt_mk_lt (zt_l x7)) h1
    exact br_t (nI_lt so (by omega)) (zt_L315 HP hi hj g)
  · rintro n e ⟨c', kn', fo', fr', b2, b3, b4, b5⟩ he h hw
    have st : wL_lawOf_169 post mc ms (wL_lawOf_110 post mc ms x3 x4 x5 x7 (nI i) (nI j) kc ks n) x3 x4 x5 x7 (nI i) (nI j) (nI (zt_cn (zt_l x7) e)) (nI (zt_wt (zt_l x7) e)) (nI e) (nI (zt_l x7 e)) (nI (zt_tr e)) kc ks c' kn' fo' fr' a1 b2 b3 b4 b5 a6 :=
      zt_L169 he h (fun fr1 d2 d3 d4 d5 g => hw (nI 5, 1, nI (zt_S (zt_l x7) 5).length, fr1, d2, d3, d4, d5) (zt_GK g))
    refine pk_le 7 e (fun z => absurd z (by omega)) (fun _ => nm_r (zt_lb x7 e).1 ?_)
    refine pk_eq e 0 (fun z => ?_) (fun z0 => pk_eq e 5 (fun z => ?_) (fun z5 => pk_eq e 6 (fun z => ?_) (fun z6 => ?_)))
    · subst z
      exact st
    · subst z
      exact st
    · subst z
      exact st
    · rw [zt_side e he z0 z5 z6]
      exact st
theorem zt_L29 {J12 : Int32 → Int32 → Int32 → Int32 → Int32 → (Nat → Int32) → (Nat → Int32) → (Nat → Int32) → (Nat → Int32) → (Nat → Int32) → (Nat → Int32) → Prop} {p : Nat} (hp : p < 5)
    (h1 : ∀ i j, i < p → j < p → a1 (7 * i + j) = nI (zt_d (zt_l (x0 &&& 2097151)) i j)) (h2 : a1 (8 * p) = 0) (h3 : ∀ i, i < p → a1 (7 * i + p) = nI 60 ∧ a1 (7 * p + i) = nI 60)
    (HJ : ∀ b1, zt_M (zt_l (x0 &&& 2097151)) (p + 1) b1 → J12 (nI (p + 1)) (nI (p + 1)) 0 fo fr b1 a2 a3 a4 a5 a6) :
    ∃ fu : Nat, wL_lawOf_29 post mc ms J12 x0 x1 x2 x3 x4 x5 (nI p) kc ks fu 0 (nI (p + 1)) 0 fo fr a1 a2 a3 a4 a5 a6 := by
  have hl := zt_lle (x0 &&& 2097151)
  refine pk_loop (σ := Nat → Int32) (fun n q b1 => wL_lawOf_29 post mc ms J12 x0 x1 x2 x3 x4 x5 (nI p) kc ks n (nI q) (nI (p + 1)) 0 fo fr b1 a2 a3 a4 a5 a6)
    (fun q b1 => (∀ i j, i < p → j < p → b1 (7 * i + j) = nI (zt_d (zt_l (x0 &&& 2097151)) i j)) ∧ b1 (8 * p) = 0 ∧ (∀ i, i < q → b1 (7 * i + p) = nI (zt_d (zt_l (x0 &&& 2097151)) i p) ∧ b1 (7 * p + i) = nI (zt_d (zt_l (x0 &&& 2097151)) i p)) ∧ (∀ i, q ≤ i → i < p → b1 (7 * i + p) = nI 60 ∧ b1 (7 * p + i) = nI 60)) p 0 a1 (Nat.zero_le _)
    ⟨h1, h2, fun i hi => absurd hi (Nat.not_lt_zero i), fun i _ hi => h3 i hi⟩ ?_ ?_
  · intro n b1 h
    refine pk_le p p (fun _ => nm_r (nI_1 p) (HJ b1 (fun i j hi hj => ?_))) (fun z => absurd z (by omega))
    by_cases ei : i = p
    · by_cases ej : j = p
      · rw [ei, ej, zt_d_self, show 7 * p + p = 8 * p by omega]
        exact h.2.1
      · rw [ei, zt_d_sym]
        exact (h.2.2.1 j (by omega)).2
    · by_cases ej : j = p
      · rw [ej]
        exact (h.2.2.1 i (by omega)).1
      · exact h.1 i j (by omega) (by omega)
  · intro n q b1 hq h hw
    have hd := zt_d_le hl q p
    refine pk_le p q (fun z => absurd z (by omega)) (fun _ => zt_way (by omega) hp (zt_set (by omega) (by omega) (by omega) (by omega) (by omega) (br_t (h.2.2.2 q (Nat.le_refl q) hq).1 (nm_r (nI_1 q) (hw _ ⟨fun i j hi hj => ?_, ?_, fun i hi => ?_, fun i hi hi' => ?_⟩)))))
    · rw [pk_un (by omega), pk_un (by omega), h.1 i j hi hj]
    · rw [pk_un (by omega), pk_un (by omega), h.2.1]
    · by_cases e : i = q
      · subst e
        constructor
        · rw [pk_un (by omega), pk_us]
        · rw [pk_us]
      · have := h.2.2.1 i (by omega)
        constructor
        · rw [pk_un (by omega), pk_un (by omega), this.1]
        · rw [pk_un (by omega), pk_un (by omega), this.2]
    · have := h.2.2.2 i (by omega) hi'
      constructor
      · rw [pk_un (by omega), pk_un (by omega), this.1]
      · rw [pk_un (by omega), pk_un (by omega), this.2]
theorem zt_rem5 (x : Int32) : ∃ i : Nat, i < 5 ∧ (x &&& 127) - (x &&& 127) / 5 * 5 = nI i := by
  obtain ⟨k, hk, e⟩ := pk_andE x (m := 127) 7 (by decide)
  have hk' : k < 128 := hk
  rw [e]
  exact ⟨k % 5, by omega, pk_rem (a := k) (d := 5) (by omega) (by decide) (by decide)⟩
theorem zt_L12 (HP : post 1 ()) : ∃ fu : Nat, wL_lawOf_12 post mc ms x0 x1 x2 x3 x4 x5 kc ks fu 0 0 0 fo fr a1 a2 a3 a4 a5 a6 := by
  refine pk_loop (σ := Nat → Int32) (fun n p b1 => wL_lawOf_12 post mc ms x0 x1 x2 x3 x4 x5 kc ks n (nI p) (nI p) 0 fo fr b1 a2 a3 a4 a5 a6) (fun p b1 => zt_M (zt_l (x0 &&& 2097151)) p b1) 5 0 a1 (by decide) (fun i j hi => absurd hi (Nat.not_lt_zero i)) ?_ ?_
  · intro n b1 h
    obtain ⟨i, hi, ei⟩ := zt_rem5 x1
    obtain ⟨j, hj, ej⟩ := zt_rem5 x2
    refine pk_le 5 5 (fun _ => nm_e ⟨by decide, nm_r ei ⟨by decide, nm_r ej ?_⟩⟩) (fun z => absurd z (by omega))
    exact zt_L110 HP hi hj ⟨rfl, h, Or.inl rfl⟩
  · intro n p b1 hp h hw
    refine pk_le 5 p (fun z => absurd z (by omega)) (fun _ => zt_point (v := 60) (by omega) (by decide) (fun d1 q1 q2 q3 => ?_))
    exact zt_L29 hp (fun i j hi hj => by rw [q1 i j hi hj, h i j hi hj]) q2 q3 hw
theorem zt_lawOf (HP : post 1 ()) : wpL_lawOf post 74 1168 () x0 x1 x2 x3 x4 x5 :=
  And.intro (by decide) (And.intro (by decide) ⟨6, 226, by decide, by decide, by decide, by decide, by decide, by decide, by decide, by decide, by decide, by decide, by decide, by decide, by decide, by decide, zt_L12 HP⟩)
end
theorem zt_cell {post : Int32 → Prop} {L : Nat} {xs : Nat → Int32} (hL : L ≤ 6) (k : Nat) (hk : k < 6) (H : ∀ r, post r) : wpL_cellAt post L xs () (nI k) :=
  pk_le L k (fun _ => H _) (fun z => ⟨vp_in_nI z (by omega), H _⟩)
theorem i_vc (xs : Nat → Int32) (L : Nat) (hL : L ≤ 6) : wpL_law (fun r => r = 1) L xs := by
  unfold wpL_law
  refine zt_cell hL 0 (by decide) (fun r0 => zt_cell hL 1 (by decide) (fun r1 => zt_cell hL 2 (by decide) (fun r2 => zt_cell hL 3 (by decide) (fun r3 => zt_cell hL 4 (by decide) (fun r4 => zt_cell hL 5 (by decide) (fun r5 => ?_))))))
  exact ⟨74, 1168, by decide, by decide, zt_lawOf rfl⟩
end
