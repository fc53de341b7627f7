section
/-! rows pasted from the kit's PURE-ROWS (a starting text) -/
theorem pk_us {f : Nat → Int32} {k : Nat} {x : Int32} : upd f k x k = x := if_pos rfl
theorem pk_un {f : Nat → Int32} {k j : Nat} {x : Int32} (h : j ≠ k) : upd f k x j = f j := if_neg h
theorem pk_sub {a b : Nat} (h : b ≤ a) : nI a - nI b = nI (a - b) := by
  obtain ⟨c, rfl⟩ : ∃ c, a = c + b := ⟨a - b, by omega⟩
  rw [← nI_add, Int32.add_sub_cancel, Nat.add_sub_cancel]
theorem pk_m1 (n : Nat) : nI (n + 1) + (-1) = nI n := by
  rw [← nI_1, Int32.add_assoc, show (1 : Int32) + (-1) = 0 from rfl, Int32.add_zero]
theorem pk_mul (a b : Nat) : nI a * nI b = nI (a * b) := (Int32.ofNat_mul a b).symm
theorem pk_ix (x : Int32) {n : Nat} (hn : n < 2 ^ 31) : x < 0 ∨ nI n ≤ x ∨ ∃ j : Nat, j < n ∧ x = nI j := by
  by_cases h : x < 0
  · exact Or.inl h
  · obtain ⟨j, hj, rfl⟩ := nI_of h
    by_cases h2 : j < n
    · exact Or.inr (Or.inr ⟨j, h2, rfl⟩)
    · exact Or.inr (Or.inl (nI_le (by omega) hj))
theorem pk_le {x y : Int32} {A B : Prop} (a b : Nat) (f : a ≤ b → A) (g : b < a → B) (hx : x = nI a := by rfl) (hy : y = nI b := by rfl) (ha : a < 2 ^ 31 := by omega) (hb : b < 2 ^ 31 := by omega) : (x ≤ y → A) ∧ (¬ x ≤ y → B) := by
  subst hx hy
  rw [nI_leI ha hb]
  exact ⟨f, fun z => g (by omega)⟩
theorem pk_lt {x y : Int32} {A B : Prop} (a b : Nat) (f : a < b → A) (g : b ≤ a → B) (hx : x = nI a := by rfl) (hy : y = nI b := by rfl) (ha : a < 2 ^ 31 := by omega) (hb : b < 2 ^ 31 := by omega) : (x < y → A) ∧ (¬ x < y → B) := by
  subst hx hy
  rw [nI_ltI ha hb]
  exact ⟨f, fun z => g (by omega)⟩
theorem pk_eq {x y : Int32} {A B : Prop} (a b : Nat) (f : a = b → A) (g : a ≠ b → B) (hx : x = nI a := by rfl) (hy : y = nI b := by rfl) (ha : a < 2 ^ 31 := by omega) (hb : b < 2 ^ 31 := by omega) : (x = y → A) ∧ (¬ x = y → B) := by
  subst hx hy
  rw [nI_eq ha hb]
  exact ⟨f, g⟩
theorem pk_in {x : Int32} (n N : Nat) (h : n < N) (hx : x = nI n := by rfl) (hN : N < 2 ^ 31 := by omega) : vp_in x N := by
  subst hx
  exact vp_in_nI h hN
theorem pk_cl {x : Int32} (n : Nat) (hx : x = nI n := by rfl) (h : n < 2 ^ 31 := by omega) : x.toNatClampNeg = n := by
  subst hx
  exact nI_clamp h
theorem pk_tn {n : Nat} (h : n < 2 ^ 32) : (nI n).toBitVec.toNat = n := Nat.mod_eq_of_lt h
theorem pk_and (x : Int32) {m : Int32} (k : Nat) (hm : m.toBitVec.toNat = 2 ^ k - 1) : x &&& m = nI (x.toBitVec.toNat % 2 ^ k) := by
  apply Int32.toBitVec_inj.mp
  apply BitVec.eq_of_toNat_eq
  rw [Int32.toBitVec_and, BitVec.toNat_and, hm, Nat.and_two_pow_sub_one_eq_mod]
  show _ = (BitVec.ofNat 32 _).toNat
  rw [BitVec.toNat_ofNat]
  exact (Nat.mod_eq_of_lt (Nat.lt_of_le_of_lt (Nat.mod_le _ _) x.toBitVec.isLt)).symm
theorem pk_andE (x : Int32) {m : Int32} (k : Nat) (hm : m.toBitVec.toNat = 2 ^ k - 1) : ∃ j : Nat, j < 2 ^ k ∧ x &&& m = nI j := ⟨_, Nat.mod_lt _ (Nat.two_pow_pos k), pk_and x k hm⟩
theorem pk_andIn (x : Int32) {m : Int32} (k : Nat) (hm : m.toBitVec.toNat = 2 ^ k - 1) (hk : k ≤ 30) : vp_in (x &&& m) (2 ^ k) := by
  obtain ⟨j, hj, e⟩ := pk_andE x k hm
  rw [e]
  exact vp_in_nI hj (Nat.lt_of_le_of_lt (Nat.pow_le_pow_right (by decide) hk) (by decide))
end
section
/-! the plain notions: the woven layout, breakpoints and their count, the output ring, the frames, the machine -/
section
variable {L F : Nat} {br gd st pc ls lc wr ys co : Int32} {op fi se bk sk pl wo wf le en bo lo go ta ou yk yg yt la : Nat → Int32}
/-- where the instruction's probe (or itself) stands in the woven copy -/
def wd_e (bk pl : Nat → Int32) : Nat → Nat
  | 0 => 0
  | i + 1 => wd_e bk pl i + (if bk i = 0 ∧ pl i = 0 then 1 else 2)
/-- where the instruction itself stands -/
def wd_d (bk pl : Nat → Int32) (i : Nat) : Nat := wd_e bk pl i + (if bk i = 0 ∧ pl i = 0 then 0 else 1)
theorem wd_e_s (i : Nat) : wd_e bk pl (i + 1) = wd_d bk pl i + 1 := by
  show wd_e bk pl i + (if bk i = 0 ∧ pl i = 0 then 1 else 2) = wd_e bk pl i + (if bk i = 0 ∧ pl i = 0 then 0 else 1) + 1
  by_cases h : bk i = 0 ∧ pl i = 0
  · rw [if_pos h, if_pos h]
  · rw [if_neg h, if_neg h]
theorem wd_d_n {i : Nat} (h : bk i = 0 ∧ pl i = 0) : wd_d bk pl i = wd_e bk pl i := by
  show wd_e bk pl i + (if bk i = 0 ∧ pl i = 0 then 0 else 1) = _
  rw [if_pos h]; rfl
theorem wd_d_p {i : Nat} (h : ¬ (bk i = 0 ∧ pl i = 0)) : wd_d bk pl i = wd_e bk pl i + 1 := by
  show wd_e bk pl i + (if bk i = 0 ∧ pl i = 0 then 0 else 1) = _
  rw [if_neg h]
theorem wd_e_d (i : Nat) : wd_e bk pl i ≤ wd_d bk pl i := Nat.le_add_right _ _
theorem wd_e_le : ∀ i : Nat, wd_e bk pl i ≤ 2 * i
  | 0 => Nat.le_refl 0
  | i + 1 => by
    have h := wd_e_le i
    show wd_e bk pl i + (if bk i = 0 ∧ pl i = 0 then 1 else 2) ≤ _
    split <;> omega
theorem wd_d_le (i : Nat) : wd_d bk pl i ≤ 2 * i + 1 := by
  have h := wd_e_le (bk := bk) (pl := pl) (i + 1)
  rw [wd_e_s] at h
  omega
theorem wd_d_lt {i : Nat} : ∀ j : Nat, i < j → wd_d bk pl i < wd_e bk pl j
  | 0, h => absurd h (Nat.not_lt_zero _)
  | j + 1, h => by
    rw [wd_e_s]
    rcases Nat.lt_succ_iff_lt_or_eq.mp h with h | h
    · have a := wd_d_lt j h
      have b := wd_e_d (bk := bk) (pl := pl) j
      omega
    · rw [h]; exact Nat.lt_succ_self _
theorem wd_d_ne {i j : Nat} (h : j ≠ i) : wd_d bk pl j ≠ wd_d bk pl i := by
  rcases Nat.lt_or_gt_of_ne h with a | a
  · have b := wd_d_lt (bk := bk) (pl := pl) i a
    have c := wd_e_d (bk := bk) (pl := pl) i
    omega
  · have b := wd_d_lt (bk := bk) (pl := pl) j a
    have c := wd_e_d (bk := bk) (pl := pl) j
    omega
/-- where a jump leads -/
def wd_ld (L : Nat) (bk pl : Nat → Int32) (s l : Int32) : Prop := ((s < 0 ∨ nI L ≤ s) ∧ l = -1) ∨ (∃ j : Nat, j < L ∧ s = nI j ∧ l = nI (wd_e bk pl j))
/-- the first i instructions are woven -/
def wd_V (op bk pl wo wf en bo : Nat → Int32) (i : Nat) : Prop := ∀ j : Nat, j < i → wo (wd_d bk pl j) = op j ∧ wf (wd_d bk pl j) = nI j ∧ wf (wd_e bk pl j) = nI j ∧ (¬ (bk j = 0 ∧ pl j = 0) → wo (wd_e bk pl j) = 11) ∧ bo j = nI (wd_d bk pl j) ∧ en j = nI (wd_e bk pl j)
/-- the woven copy -/
def wd_W (L : Nat) (op se bk pl wo wf le en bo : Nat → Int32) : Prop := wd_V op bk pl wo wf en bo L ∧ (∀ j : Nat, j < L → wd_ld L bk pl (se j) (le (wd_d bk pl j))) ∧ en L = nI (wd_e bk pl L) ∧ wo (wd_e bk pl L) = 12 ∧ wf (wd_e bk pl L) = nI L
theorem wd_V_n {i : Nat} (h : (wd_V op bk pl wo wf en bo) i) (hn : bk i = 0 ∧ pl i = 0) : (wd_V op bk pl (upd wo (wd_e bk pl i) (op i)) (upd wf (wd_e bk pl i) (nI i)) (upd en i (nI (wd_e bk pl i))) (upd bo i (nI (wd_e bk pl i)))) (i + 1) := by
  intro j hj
  by_cases e : j = i
  · subst e
    rw [wd_d_n hn]
    exact ⟨pk_us, pk_us, pk_us, fun z => absurd hn z, pk_us, pk_us⟩
  · have hj' : j < i := by omega
    have a := wd_d_lt (bk := bk) (pl := pl) i hj'
    have b := wd_e_d (bk := bk) (pl := pl) j
    rw [pk_un (show wd_d bk pl j ≠ wd_e bk pl i by omega), pk_un (show wd_d bk pl j ≠ wd_e bk pl i by omega), pk_un (show wd_e bk pl j ≠ wd_e bk pl i by omega), pk_un (show wd_e bk pl j ≠ wd_e bk pl i by omega), pk_un e, pk_un e]
    exact h j hj'
theorem wd_V_p {i : Nat} (h : (wd_V op bk pl wo wf en bo) i) (hn : ¬ (bk i = 0 ∧ pl i = 0)) : (wd_V op bk pl (upd (upd wo (wd_e bk pl i) 11) (wd_e bk pl i + 1) (op i)) (upd (upd wf (wd_e bk pl i) (nI i)) (wd_e bk pl i + 1) (nI i)) (upd en i (nI (wd_e bk pl i))) (upd bo i (nI (wd_e bk pl i + 1)))) (i + 1) := by
  intro j hj
  by_cases e : j = i
  · subst e
    rw [wd_d_p hn]
    have n : wd_e bk pl j ≠ wd_e bk pl j + 1 := by omega
    exact ⟨pk_us, pk_us, (pk_un n).trans pk_us, fun _ => (pk_un n).trans pk_us, pk_us, pk_us⟩
  · have hj' : j < i := by omega
    have a := wd_d_lt (bk := bk) (pl := pl) i hj'
    have b := wd_e_d (bk := bk) (pl := pl) j
    have n1 : wd_d bk pl j ≠ wd_e bk pl i := by omega
    have n2 : wd_d bk pl j ≠ wd_e bk pl i + 1 := by omega
    have n3 : wd_e bk pl j ≠ wd_e bk pl i := by omega
    have n4 : wd_e bk pl j ≠ wd_e bk pl i + 1 := by omega
    obtain ⟨h1, h2, h3, h4, h5, h6⟩ := h j hj'
    exact ⟨(pk_un n2).trans ((pk_un n1).trans h1), (pk_un n2).trans ((pk_un n1).trans h2), (pk_un n4).trans ((pk_un n3).trans h3), fun z => (pk_un n4).trans ((pk_un n3).trans (h4 z)), (pk_un e).trans h5, (pk_un e).trans h6⟩
theorem wd_V_L (h : (wd_V op bk pl wo wf en bo) L) : (wd_V op bk pl (upd wo (wd_e bk pl L) 12) (upd wf (wd_e bk pl L) (nI L)) (upd en L (nI (wd_e bk pl L))) (upd bo L (nI (wd_e bk pl L)))) L := by
  intro j hj
  have a := wd_d_lt (bk := bk) (pl := pl) L hj
  have b := wd_e_d (bk := bk) (pl := pl) j
  have n1 : wd_d bk pl j ≠ wd_e bk pl L := by omega
  have n3 : wd_e bk pl j ≠ wd_e bk pl L := by omega
  have e : j ≠ L := by omega
  obtain ⟨h1, h2, h3, h4, h5, h6⟩ := h j hj
  exact ⟨(pk_un n1).trans h1, (pk_un n1).trans h2, (pk_un n3).trans h3, fun z => (pk_un n3).trans (h4 z), (pk_un e).trans h5, (pk_un e).trans h6⟩
theorem wd_W_wf (h : (wd_W L op se bk pl wo wf le en bo)) {g : Nat} (hg : g ≤ L) : wf (wd_e bk pl g) = nI g := by
  rcases Nat.lt_or_eq_of_le hg with a | a
  · exact (h.1 g a).2.2.1
  · rw [a]; exact h.2.2.2.2
theorem wd_W_en (h : (wd_W L op se bk pl wo wf le en bo)) {g : Nat} (hg : g ≤ L) : en g = nI (wd_e bk pl g) := by
  rcases Nat.lt_or_eq_of_le hg with a | a
  · exact (h.1 g a).2.2.2.2.2
  · rw [a]; exact h.2.2.1
/-- return places of the standing frames -/
def wd_FG (L F : Nat) (bk pl go yg : Nat → Int32) : Prop := ∀ f : Nat, f + 1 < F → ∃ g : Nat, g ≤ L ∧ yg f = nI g ∧ go (f + 1) = nI (wd_e bk pl g)
def wd_FW (L F : Nat) (wf go yg : Nat → Int32) : Prop := ∀ f : Nat, f + 1 < F → ∃ g q : Nat, g ≤ L ∧ yg f = nI g ∧ q < 48 ∧ go (f + 1) = nI q ∧ wf q = nI g
def wd_FT (F : Nat) (ta yt : Nat → Int32) : Prop := ∀ f : Nat, f + 1 < F → ∃ t : Nat, t < 4 ∧ ta (f + 1) = nI t ∧ yt f = nI t
theorem wd_FW_of (hL : L ≤ 20) (h : (wd_W L op se bk pl wo wf le en bo)) (hg : (wd_FG L F bk pl go yg)) : (wd_FW L F wf go yg) := by
  intro f hf
  obtain ⟨g, h1, h2, h3⟩ := hg f hf
  have := wd_e_le (bk := bk) (pl := pl) g
  exact ⟨g, _, h1, h2, by omega, h3, wd_W_wf h h1⟩
/-- the program -/
def wd_PG (L : Nat) (op : Nat → Int32) : Prop := L ≤ 20 ∧ ∀ i : Nat, i < L → ∃ o : Nat, o ≤ 10 ∧ op i = nI o
/-- breakpoints -/
def wd_BK (bk sk yk : Nat → Int32) : Prop := ∀ p : Nat, p < 20 → (bk p = 0 ∧ yk p = -1) ∨ (bk p = 1 ∧ sk p = yk p ∧ ∃ s : Nat, s ≤ 100 ∧ yk p = nI s)
def wd_b (x : Int32) : Nat := if x < 0 then 0 else 1
def wd_cn (yk : Nat → Int32) : Nat → Nat
  | 0 => 0
  | n + 1 => wd_cn yk n + wd_b (yk n)
theorem wd_b_m : wd_b (-1) = 0 := if_pos (by decide)
theorem wd_b_n {s : Nat} (h : s ≤ 100) : wd_b (nI s) = 1 := if_neg (nI_pos (by omega))
theorem wd_cn_le : ∀ n : Nat, wd_cn yk n ≤ n
  | 0 => Nat.le_refl 0
  | n + 1 => by
    have h := wd_cn_le n
    have b : wd_b (yk n) ≤ 1 := by unfold wd_b; split <;> omega
    show wd_cn yk n + wd_b (yk n) ≤ n + 1
    omega
theorem wd_cn_o {p : Nat} {v : Int32} : ∀ n : Nat, n ≤ p → wd_cn (upd yk p v) n = wd_cn yk n
  | 0, _ => rfl
  | n + 1, h => by
    show wd_cn (upd yk p v) n + wd_b (upd yk p v n) = wd_cn yk n + wd_b (yk n)
    rw [wd_cn_o n (by omega), pk_un (by omega)]
theorem wd_cn_u {p : Nat} {v : Int32} : ∀ n : Nat, p < n → wd_cn (upd yk p v) n + wd_b (yk p) = wd_cn yk n + wd_b v
  | 0, h => absurd h (Nat.not_lt_zero _)
  | n + 1, h => by
    show wd_cn (upd yk p v) n + wd_b (upd yk p v n) + wd_b (yk p) = wd_cn yk n + wd_b (yk n) + wd_b v
    rcases Nat.lt_succ_iff_lt_or_eq.mp h with h | h
    · have := wd_cn_u (p := p) (v := v) n h
      rw [pk_un (show n ≠ p by omega)]
      omega
    · subst h
      rw [wd_cn_o p (Nat.le_refl p), pk_us]
      omega
theorem wd_BK_u {p : Nat} {b k y : Int32} (h : (wd_BK bk sk yk)) (hp : (b = 0 ∧ y = -1) ∨ (b = 1 ∧ k = y ∧ ∃ s : Nat, s ≤ 100 ∧ y = nI s)) : (wd_BK (upd bk p b) (upd sk p k) (upd yk p y)) := by
  intro q hq
  by_cases e : q = p
  · subst e; rw [pk_us, pk_us, pk_us]; exact hp
  · rw [pk_un e, pk_un e, pk_un e]; exact h q hq
/-- the last eight outputs -/
def wd_OU (wr : Int32) (ou la : Nat → Int32) : Prop := ∀ j : Nat, j < 8 → nI j < wr → la j = ou ((wr - 1 - nI j) &&& 7).toNatClampNeg
theorem wd_ix (hL : L ≤ 20) (p : Int32) : (p < 0 ∨ nI L ≤ p) ∨ ∃ j : Nat, j < L ∧ p = nI j := by
  rcases pk_ix p (show L < 2 ^ 31 by omega) with k | k | k
  · exact Or.inl (Or.inl k)
  · exact Or.inl (Or.inr k)
  · exact Or.inr k
theorem wd_nw {p : Int32} {j : Nat} (hL : L ≤ 20) (q : p < 0 ∨ nI L ≤ p) (hj : j < L) (e : p = nI j) : False := by
  subst e
  rcases q with q | q
  · exact nI_pos (by omega) q
  · exact nI_ge hj (by omega) q
theorem wd_OU_0 : (wd_OU 0 ou la) := fun j hj h => absurd h (nI_pos (by omega))
end
end
section
/-! the output ring's step; the machine; the relation, its way in and its way out -/
section
variable {L F : Nat} {br gd st pc ls lc wr ys co : Int32} {op fi se bk sk pl wo wf le en bo lo go ta ou yk yg yt la : Nat → Int32}
def wd_sh (m : Nat) (la : Nat → Int32) : Nat → Int32 := fun j => if m < j ∧ j < 8 then la (j - 1) else la j
theorem wd_sh_7 : wd_sh 7 la = la := by
  funext j
  exact if_neg (by omega)
theorem wd_sh_s {m : Nat} (hm : m < 7) : upd (wd_sh (m + 1) la) (m + 1) (wd_sh (m + 1) la m) = wd_sh m la := by
  funext j
  by_cases e : j = m + 1
  · subst e
    rw [pk_us]
    show (if m + 1 < m ∧ m < 8 then la (m - 1) else la m) = (if m < m + 1 ∧ m + 1 < 8 then la (m + 1 - 1) else la (m + 1))
    rw [if_neg (by omega), if_pos (by omega)]
    rfl
  · rw [pk_un e]
    show (if m + 1 < j ∧ j < 8 then la (j - 1) else la j) = (if m < j ∧ j < 8 then la (j - 1) else la j)
    by_cases h : m < j ∧ j < 8
    · rw [if_pos h, if_pos (by omega)]
    · rw [if_neg h, if_neg (by omega)]
theorem wd_and7 (x : Int32) : (x &&& 7).toNatClampNeg = x.toBitVec.toNat % 8 := by
  rw [pk_and x 3 (by decide)]
  exact nI_clamp (by omega)
theorem wd_lt1 {j : Nat} (hj : j < 8) (h : nI (j + 1) < wr + 1) : nI j < wr := by
  rw [Int32.lt_iff_toInt_lt, nI_toInt (by omega)] at h ⊢
  have a := wr.toInt_lt
  have b := wr.le_toInt
  by_cases c : wr.toInt + 1 < 2 ^ 31
  · have e : (wr + 1).toInt = wr.toInt + 1 := by
      rw [Int32.toInt_add, show (1 : Int32).toInt = 1 from by decide]
      exact Int.bmod_eq_of_le (by omega) (by omega)
    rw [e] at h
    omega
  · omega
theorem wd_OU_s {v : Int32} (h : (wd_OU wr ou la)) : (wd_OU (wr + 1) (upd ou (wr &&& 7).toNatClampNeg v) (upd (wd_sh 0 la) 0 v)) := by
  intro j hj hl
  cases j with
  | zero =>
    have e : wr + 1 - 1 - nI 0 = wr := by rw [nI_0, Int32.sub_zero, Int32.add_sub_cancel]
    rw [e, pk_us, pk_us]
  | succ j =>
    have e : wr + 1 - 1 - nI (j + 1) = wr - 1 - nI j := by
      rw [← nI_1]
      grind
    have n : ((wr - 1 - nI j) &&& 7).toNatClampNeg ≠ (wr &&& 7).toNatClampNeg := by
      rw [wd_and7, wd_and7, Int32.toBitVec_sub, Int32.toBitVec_sub, BitVec.toNat_sub, BitVec.toNat_sub, pk_tn (by omega), show (1 : Int32).toBitVec.toNat = 1 from by decide]
      have := wr.toBitVec.isLt
      omega
    rw [e, pk_un n, pk_un (show j + 1 ≠ 0 by omega), ← h j (by omega) (wd_lt1 (by omega) hl)]
    show (if 0 < j + 1 ∧ j + 1 < 8 then la (j + 1 - 1) else la (j + 1)) = la j
    rw [if_pos (by omega)]
    rfl
/-- the machine, once started -/
def wd_MC (L F : Nat) (st pc ls lc co : Int32) (op se bk pl wo wf le en bo go ta yg yt : Nat → Int32) : Prop :=
  1 ≤ F ∧ F ≤ 6 ∧ (wd_W L op se bk pl wo wf le en bo) ∧ (wd_FG L F bk pl go yg) ∧ (wd_FT F ta yt) ∧ ∃ q i : Nat, q < 48 ∧ i ≤ L ∧ pc = nI q ∧ wf q = nI i ∧ ((ls = 0 ∧ co = nI i ∧ i < L) ∨ (ls = 1 ∧ lc = co ∧ st = 6))
def wd_R (L F : Nat) (br st pc ls lc co wr : Int32) (op se bk sk pl wo wf le en bo go ta ou yk yg yt la : Nat → Int32) : Prop :=
  (wd_PG L op) ∧ (wd_BK bk sk yk) ∧ br = nI (wd_cn yk 20) ∧ (wd_OU wr ou la) ∧ ((st = 0 ∧ F = 0) ∨ (¬ st = 0 ∧ (wd_MC L F st pc ls lc co op se bk pl wo wf le en bo go ta yg yt)))
def wd_Z (pl : Nat → Int32) : Prop := ∀ p : Nat, p < 20 → pl p = 0
def i_Rel (k : Nat) (u : SX) (v : SY) : Prop :=
  ∃ L F : Nat, ∃ br gd st pc ls lc wr co : Int32, ∃ op fi se bk sk pl wo wf le en bo lo go ta ou yk yg yt la : Nat → Int32, u = ((nI L), br, gd, st, pc, ls, lc, (nI F), wr, op, fi, se, bk, sk, pl, wo, wf, le, en, bo, lo, go, ta, ou) ∧ v = ((nI L), st, (nI F), co, wr, op, fi, se, yk, lo, yg, yt, la) ∧ wd_Z pl ∧ (wd_R L F br st pc ls lc co wr op se bk sk pl wo wf le en bo go ta ou yk yg yt la)
theorem wd_in {k : Nat} (hz : wd_Z pl) (h : (wd_R L F br st pc ls lc co wr op se bk sk pl wo wf le en bo go ta ou yk yg yt la)) : i_Rel k ((nI L), br, gd, st, pc, ls, lc, (nI F), wr, op, fi, se, bk, sk, pl, wo, wf, le, en, bo, lo, go, ta, ou) ((nI L), st, (nI F), co, wr, op, fi, se, yk, lo, yg, yt, la) :=
  ⟨L, F, br, gd, st, pc, ls, lc, wr, co, op, fi, se, bk, sk, pl, wo, wf, le, en, bo, lo, go, ta, ou, yk, yg, yt, la, rfl, rfl, hz, h⟩
theorem wd_el {P : SX → SY → Prop} {k : Nat} {u : SX} {v : SY} (I : i_Rel k u v)
    (h : ∀ (L F : Nat) (br gd st pc ls lc wr co : Int32) (op fi se bk sk pl wo wf le en bo lo go ta ou yk yg yt la : Nat → Int32), wd_Z pl → (wd_R L F br st pc ls lc co wr op se bk sk pl wo wf le en bo go ta ou yk yg yt la) → P ((nI L), br, gd, st, pc, ls, lc, (nI F), wr, op, fi, se, bk, sk, pl, wo, wf, le, en, bo, lo, go, ta, ou) ((nI L), st, (nI F), co, wr, op, fi, se, yk, lo, yg, yt, la)) : P u v :=
  Exists.elim I fun L I => Exists.elim I fun F I => Exists.elim I fun br I => Exists.elim I fun gd I => Exists.elim I fun st I => Exists.elim I fun pc I => Exists.elim I fun ls I => Exists.elim I fun lc I => Exists.elim I fun wr I => Exists.elim I fun co I =>
  Exists.elim I fun op I => Exists.elim I fun fi I => Exists.elim I fun se I => Exists.elim I fun bk I => Exists.elim I fun sk I => Exists.elim I fun pl I => Exists.elim I fun wo I => Exists.elim I fun wf I => Exists.elim I fun le I => Exists.elim I fun en I =>
  Exists.elim I fun bo I => Exists.elim I fun lo I => Exists.elim I fun go I => Exists.elim I fun ta I => Exists.elim I fun ou I => Exists.elim I fun yk I => Exists.elim I fun yg I => Exists.elim I fun yt I => Exists.elim I fun la I => by
    rw [I.1, I.2.1]
    exact h L F br gd st pc ls lc wr co op fi se bk sk pl wo wf le en bo lo go ta ou yk yg yt la I.2.2.1 I.2.2.2
theorem i_up {k : Nat} {u : SX} {v : SY} (h : i_Rel k u v) : i_Rel (k + 4) u v := h
end
end
section
/-! X's weaving -/
section
variable {L F : Nat} {br gd st pc ls lc wr ys co : Int32} {op fi se bk sk pl wo wf le en bo lo go ta ou yk yg yt la : Nat → Int32}
theorem wd_xno0 {post : Int32 → Prop} {j : Nat} (hL : L ≤ 20) (hj : j < L) (h : post 0) : wpX_noInstruction post ((nI L), br, gd, st, pc, ls, lc, (nI F), wr, op, fi, se, bk, sk, pl, wo, wf, le, en, bo, lo, go, ta, ou) (nI j) :=
  br_f (nI_pos (by omega)) (br_t (nI_lt hj (by omega)) h)
theorem wd_xno1 {post : Int32 → Prop} {p : Int32} (hp : p < 0 ∨ nI L ≤ p) (h : post 1) : wpX_noInstruction post ((nI L), br, gd, st, pc, ls, lc, (nI F), wr, op, fi, se, bk, sk, pl, wo, wf, le, en, bo, lo, go, ta, ou) p := by
  by_cases h0 : p < 0
  · exact br_t h0 h
  · exact br_f h0 (br_f (Int32.not_lt.mpr (hp.resolve_left h0)) h)
theorem wd_yno0 {post : Int32 → Prop} {j : Nat} (hL : L ≤ 20) (hj : j < L) (h : post 0) : wpY_noInstruction post ((nI L), ys, (nI F), co, wr, op, fi, se, yk, lo, yg, yt, la) (nI j) :=
  br_f (nI_pos (by omega)) (br_t (nI_lt hj (by omega)) h)
theorem wd_yno1 {post : Int32 → Prop} {p : Int32} (hp : p < 0 ∨ nI L ≤ p) (h : post 1) : wpY_noInstruction post ((nI L), ys, (nI F), co, wr, op, fi, se, yk, lo, yg, yt, la) p := by
  by_cases h0 : p < 0
  · exact br_t h0 h
  · exact br_f h0 (br_f (Int32.not_lt.mpr (hp.resolve_left h0)) h)
theorem wd_x130 {post : SX → Prop} (hL : L ≤ 20) (hbo : ∀ j : Nat, j < L → bo j = nI (wd_d bk pl j)) (hen : ∀ j : Nat, j < L → en j = nI (wd_e bk pl j))
    (hp : ∀ le : Nat → Int32, (∀ j : Nat, j < L → wd_ld L bk pl (se j) (le (wd_d bk pl j))) → post ((nI L), br, gd, st, pc, ls, lc, (nI F), wr, op, fi, se, bk, sk, pl, wo, wf, le, en, bo, lo, go, ta, ou)) :
    ∀ (m i : Nat), i + m = L → ∀ le : Nat → Int32, (∀ j : Nat, j < i → wd_ld L bk pl (se j) (le (wd_d bk pl j))) → wX_weave_130 post (nI L) br gd st pc ls lc (nI F) wr (m + 1) (nI i) op fi se bk sk pl wo wf le en bo lo go ta ou := by
  intro m
  induction m with
  | zero =>
    intro i hi le hl
    have e : i = L := by omega
    subst e
    exact br_t (nI_le (Nat.le_refl i) (by omega)) (hp le hl)
  | succ m ih =>
    intro i hi le hl
    have hiL : i < L := by omega
    have hd := wd_d_le (bk := bk) (pl := pl) i
    have hs : ∀ (l : Int32), wd_ld L bk pl (se i) l → ∀ j : Nat, j < i + 1 → wd_ld L bk pl (se j) (upd le (wd_d bk pl i) l (wd_d bk pl j)) := by
      intro l h j hj
      by_cases e : j = i
      · subst e; rw [pk_us]; exact h
      · rw [pk_un (wd_d_ne e)]; exact hl j (by omega)
    rw [wX_weave_130]
    dsimp only
    rw [nI_clamp (show i < 2 ^ 31 by omega), hbo i hiL, nI_clamp (show wd_d bk pl i < 2 ^ 31 by omega)]
    refine br_f (nI_ge hiL (by omega)) ⟨vp_in_nI (by omega) (by omega), ?_⟩
    rcases wd_ix hL (se i) with h | ⟨j, hj, h⟩
    · exact wd_xno1 h ⟨vp_in_nI (by omega) (by omega), br_f (by decide) ⟨vp_in_nI (by omega) (by omega), nm_e (nm_r (nI_1 i) (ih (i + 1) (by omega) _ (hs _ (Or.inl ⟨h, rfl⟩))))⟩⟩
    · have k := hs (nI (wd_e bk pl j)) (Or.inr ⟨j, hj, h, rfl⟩)
      rw [h, nI_clamp (show j < 2 ^ 31 by omega), hen j hj]
      exact wd_xno0 hL hj ⟨vp_in_nI (by omega) (by omega), br_t rfl ⟨vp_in_nI (by omega) (by omega), vp_in_nI (by omega) (by omega), vp_in_nI (by omega) (by omega), nm_e (nm_r (nI_1 i) (ih (i + 1) (by omega) _ k))⟩⟩
theorem wd_x55 {post : SX → Prop} {J : Int32 → Int32 → (Nat → Int32) → (Nat → Int32) → (Nat → Int32) → (Nat → Int32) → (Nat → Int32) → (Nat → Int32) → (Nat → Int32) → (Nat → Int32) → (Nat → Int32) → (Nat → Int32) → (Nat → Int32) → (Nat → Int32) → (Nat → Int32) → (Nat → Int32) → (Nat → Int32) → Prop} {i q : Nat} (hi : i < 20) (hq : q < 48)
    (h : J (nI (q + 1)) (nI (i + 1)) op fi se bk sk pl (upd wo q (op i)) (upd wf q (nI i)) le en (upd bo i (nI q)) lo go ta ou) : wX_weave_55 post J (nI q) (nI i) (nI L) br gd st pc ls lc (nI F) wr op fi se bk sk pl wo wf le en bo lo go ta ou := by
  unfold wX_weave_55
  rw [nI_clamp (show i < 2 ^ 31 by omega), nI_clamp (show q < 2 ^ 31 by omega)]
  exact ⟨vp_in_nI (by omega) (by omega), nm_e ⟨vp_in_nI (by omega) (by omega), vp_in_nI (by omega) (by omega), nm_e ⟨vp_in_nI (by omega) (by omega), nm_e (nm_r (nI_1 q) (nm_r (nI_1 i) h))⟩⟩⟩
theorem wd_x37 {post : SX → Prop} {J : Int32 → Int32 → (Nat → Int32) → (Nat → Int32) → (Nat → Int32) → (Nat → Int32) → (Nat → Int32) → (Nat → Int32) → (Nat → Int32) → (Nat → Int32) → (Nat → Int32) → (Nat → Int32) → (Nat → Int32) → (Nat → Int32) → (Nat → Int32) → (Nat → Int32) → (Nat → Int32) → Prop} {i q : Nat} (hi : i < 20) (hq : q + 1 < 48)
    (h : J (nI (q + 1 + 1)) (nI (i + 1)) op fi se bk sk pl (upd (upd wo q 11) (q + 1) (op i)) (upd (upd wf q (nI i)) (q + 1) (nI i)) le en (upd bo i (nI (q + 1))) lo go ta ou) : wX_weave_37 post J (nI q) (nI i) (nI L) br gd st pc ls lc (nI F) wr op fi se bk sk pl wo wf le en bo lo go ta ou := by
  unfold wX_weave_37
  rw [nI_clamp (show q < 2 ^ 31 by omega)]
  exact ⟨vp_in_nI (by omega) (by omega), nm_e ⟨vp_in_nI (by omega) (by omega), nm_e (nm_r (nI_1 q) (wd_x55 hi hq h))⟩⟩
theorem wd_x4 {post : SX → Prop} (hL : L ≤ 20) (hp : ∀ wo wf le en bo : Nat → Int32, (wd_W L op se bk pl wo wf le en bo) → post ((nI L), br, gd, st, pc, ls, lc, (nI F), wr, op, fi, se, bk, sk, pl, wo, wf, le, en, bo, lo, go, ta, ou)) :
    ∀ (m i : Nat), i + m = L → ∀ wo wf en bo : Nat → Int32, (wd_V op bk pl wo wf en bo) i → wX_weave_4 post (nI L) br gd st pc ls lc (nI F) wr (m + 1) (nI (wd_e bk pl i)) (nI i) op fi se bk sk pl wo wf le en bo lo go ta ou := by
  intro m
  induction m with
  | zero =>
    intro i hi wo wf en bo hV
    have e : i = L := by omega
    subst e
    have hd := wd_e_le (bk := bk) (pl := pl) i
    rw [wX_weave_4]
    dsimp only
    rw [nI_clamp (show i < 2 ^ 31 by omega), nI_clamp (show wd_e bk pl i < 2 ^ 31 by omega)]
    have hV' := wd_V_L hV
    refine br_t (nI_le (Nat.le_refl i) (by omega)) ⟨vp_in_nI (by omega) (by omega), nm_e ⟨vp_in_nI (by omega) (by omega), nm_e ⟨vp_in_nI (by omega) (by omega), nm_e ⟨vp_in_nI (by omega) (by omega), nm_e ⟨i + 1, ?_⟩⟩⟩⟩⟩
    exact wd_x130 hL (fun j hj => (hV' j hj).2.2.2.2.1) (fun j hj => (hV' j hj).2.2.2.2.2) (fun le hl => hp _ _ _ _ _ ⟨hV', hl, pk_us, pk_us, pk_us⟩) i 0 (by omega) le (fun j hj => absurd hj (Nat.not_lt_zero j))
  | succ m ih =>
    intro i hi wo wf en bo hV
    have hiL : i < L := by omega
    have hd := wd_e_le (bk := bk) (pl := pl) i
    have hs := wd_e_s (bk := bk) (pl := pl) i
    have A : ∀ (hn : bk i = 0 ∧ pl i = 0), wX_weave_4 post (nI L) br gd st pc ls lc (nI F) wr (m + 1) (nI (wd_e bk pl i + 1)) (nI (i + 1)) op fi se bk sk pl (upd wo (wd_e bk pl i) (op i)) (upd wf (wd_e bk pl i) (nI i)) le (upd en i (nI (wd_e bk pl i))) (upd bo i (nI (wd_e bk pl i))) lo go ta ou := by
      intro hn
      have k := ih (i + 1) (by omega) _ _ _ _ (wd_V_n hV hn)
      rw [hs, wd_d_n hn] at k
      exact k
    have B : ∀ (hn : ¬ (bk i = 0 ∧ pl i = 0)), wX_weave_4 post (nI L) br gd st pc ls lc (nI F) wr (m + 1) (nI (wd_e bk pl i + 1 + 1)) (nI (i + 1)) op fi se bk sk pl (upd (upd wo (wd_e bk pl i) 11) (wd_e bk pl i + 1) (op i)) (upd (upd wf (wd_e bk pl i) (nI i)) (wd_e bk pl i + 1) (nI i)) le (upd en i (nI (wd_e bk pl i))) (upd bo i (nI (wd_e bk pl i + 1))) lo go ta ou := by
      intro hn
      have k := ih (i + 1) (by omega) _ _ _ _ (wd_V_p hV hn)
      rw [hs, wd_d_p hn] at k
      exact k
    rw [wX_weave_4]
    dsimp only
    rw [nI_clamp (show i < 2 ^ 31 by omega)]
    refine br_f (nI_ge hiL (by omega)) ⟨vp_in_nI (by omega) (by omega), nm_e ⟨vp_in_nI (by omega) (by omega), ?_⟩⟩
    refine br_c (fun hb => ⟨vp_in_nI (by omega) (by omega), br_c (fun hq => ?_) (fun hq => ?_)⟩) (fun hb => ?_)
    · exact wd_x55 (by omega) (by omega) (A ⟨hb, hq⟩)
    · exact wd_x37 (by omega) (by omega) (B (fun z => hq z.2))
    · exact wd_x37 (by omega) (by omega) (B (fun z => hb z.1))
theorem wd_xwv {post : SX → Prop} (hL : L ≤ 20) (hp : ∀ wo wf le en bo : Nat → Int32, (wd_W L op se bk pl wo wf le en bo) → post ((nI L), br, gd, st, pc, ls, lc, (nI F), wr, op, fi, se, bk, sk, pl, wo, wf, le, en, bo, lo, go, ta, ou)) : wpX_weave post ((nI L), br, gd, st, pc, ls, lc, (nI F), wr, op, fi, se, bk, sk, pl, wo, wf, le, en, bo, lo, go, ta, ou) :=
  Exists.intro (L + 1) (wd_x4 hL hp L 0 (by omega) wo wf en bo (fun j hj => absurd hj (Nat.not_lt_zero j)))
theorem wd_x73 {post : SX → Prop} (hL : L ≤ 20) (hF : F ≤ 6) (hW : (wd_W L op se bk pl wo wf le en bo)) (hp : ∀ go : Nat → Int32, (wd_FG L F bk pl go yg) → post ((nI L), br, gd, st, pc, ls, lc, (nI F), wr, op, fi, se, bk, sk, pl, wo, wf, le, en, bo, lo, go, ta, ou)) :
    ∀ (m i : Nat), i + m = F → ∀ go : Nat → Int32, (∀ f : Nat, f + 1 < F → ∃ g : Nat, g ≤ L ∧ yg f = nI g ∧ (f + 1 < i → go (f + 1) = nI (wd_e bk pl g)) ∧ (¬ f + 1 < i → go (f + 1) = nI g)) → 1 ≤ i → wX_reweave_73 post (nI L) br gd st pc ls lc (nI F) wr (m + 1) (nI i) op fi se bk sk pl wo wf le en bo lo go ta ou := by
  intro m
  induction m with
  | zero =>
    intro i hi go hg h1
    have e : i = F := by omega
    subst e
    refine br_t (nI_le (Nat.le_refl i) (by omega)) (hp go ?_)
    intro f hf
    obtain ⟨g, a, b, c, _⟩ := hg f hf
    exact ⟨g, a, b, c hf⟩
  | succ m ih =>
    intro i hi go hg h1
    obtain ⟨f, rfl⟩ : ∃ f, i = f + 1 := ⟨i - 1, by omega⟩
    obtain ⟨g, a, b, _, c⟩ := hg f (by omega)
    have c := c (by omega)
    rw [wX_reweave_73]
    dsimp only
    rw [nI_clamp (show f + 1 < 2 ^ 31 by omega), c, nI_clamp (show g < 2 ^ 31 by omega), wd_W_en hW a]
    refine br_f (nI_ge (show f + 1 < F by omega) (by omega)) ⟨vp_in_nI (by omega) (by omega), vp_in_nI (by omega) (by omega), vp_in_nI (by omega) (by omega), nm_e (nm_r (nI_1 (f + 1)) (ih (f + 1 + 1) (by omega) _ ?_ (by omega)))⟩
    intro f' hf'
    by_cases e : f' = f
    · subst e
      exact ⟨g, a, b, fun _ => pk_us, fun z => absurd (by omega) z⟩
    · obtain ⟨g', a', b', c', d'⟩ := hg f' hf'
      exact ⟨g', a', b', fun z => (pk_un (by omega)).trans (c' (by omega)), fun z => (pk_un (by omega)).trans (d' (by omega))⟩
theorem wd_x23 {post : SX → Prop} {c : Nat} (hL : L ≤ 20) (hF : F ≤ 6) (hF1 : 1 ≤ F) (hc : c ≤ L) (hp : ∀ wo wf le en bo go : Nat → Int32, (wd_W L op se bk pl wo wf le en bo) → (wd_FG L F bk pl go yg) → post ((nI L), br, gd, st, (nI (wd_e bk pl c)), ls, lc, (nI F), wr, op, fi, se, bk, sk, pl, wo, wf, le, en, bo, lo, go, ta, ou)) :
    ∀ (m i : Nat), i + m = F → ∀ go : Nat → Int32, (∀ f : Nat, f + 1 < F → ∃ g q : Nat, g ≤ L ∧ yg f = nI g ∧ q < 48 ∧ (f + 1 < i → go (f + 1) = nI g) ∧ (¬ f + 1 < i → go (f + 1) = nI q ∧ wf q = nI g)) → 1 ≤ i → wX_reweave_23 post (nI L) br gd st (nI c) ls lc (nI F) wr (m + 1) (nI i) op fi se bk sk pl wo wf le en bo lo go ta ou := by
  intro m
  induction m with
  | zero =>
    intro i hi go hg h1
    have e : i = F := by omega
    subst e
    refine br_t (nI_le (Nat.le_refl i) (by omega)) (wd_xwv hL ?_)
    intro wo wf le en bo hW
    refine ⟨vp_in_nI (by omega) (by omega), nm_r (e' := nI (wd_e bk pl c)) (by rw [nI_clamp (by omega)]; exact wd_W_en hW hc) ⟨i - 1 + 1, ?_⟩⟩
    refine wd_x73 hL hF hW (fun go hgo => hp wo wf le en bo go hW hgo) (i - 1) 1 (by omega) go ?_ (Nat.le_refl 1)
    intro f hf
    obtain ⟨g, q, a, b, _, d, _⟩ := hg f hf
    exact ⟨g, a, b, fun z => absurd z (by omega), fun _ => d (by omega)⟩
  | succ m ih =>
    intro i hi go hg h1
    obtain ⟨f, rfl⟩ : ∃ f, i = f + 1 := ⟨i - 1, by omega⟩
    obtain ⟨g, q, a, b, hq, _, d⟩ := hg f (by omega)
    obtain ⟨d, w⟩ := d (by omega)
    rw [wX_reweave_23]
    dsimp only
    rw [nI_clamp (show f + 1 < 2 ^ 31 by omega), d, nI_clamp (show q < 2 ^ 31 by omega), w]
    refine br_f (nI_ge (show f + 1 < F by omega) (by omega)) ⟨vp_in_nI (by omega) (by omega), vp_in_nI (by omega) (by omega), vp_in_nI (by omega) (by omega), nm_e (nm_r (nI_1 (f + 1)) (ih (f + 1 + 1) (by omega) _ ?_ (by omega)))⟩
    intro f' hf'
    by_cases e : f' = f
    · subst e
      exact ⟨g, q, a, b, hq, fun _ => pk_us, fun z => absurd (by omega) z⟩
    · obtain ⟨g', q', a', b', hq', c', d'⟩ := hg f' hf'
      exact ⟨g', q', a', b', hq', fun z => (pk_un (by omega)).trans (c' (by omega)), fun z => ⟨(pk_un (by omega)).trans (d' (by omega)).1, (d' (by omega)).2⟩⟩
/-- moving the machine to a new copy -/
theorem wd_xrw {post : SX → Prop} {q c : Nat} (hL : L ≤ 20) (hF : F ≤ 6) (hF1 : 1 ≤ F) (hst : ¬ st = 0) (hq : q < 48) (hw : wf q = nI c) (hc : c ≤ L) (hg : (wd_FW L F wf go yg)) (hp : ∀ wo wf le en bo go : Nat → Int32, (wd_W L op se bk pl wo wf le en bo) → (wd_FG L F bk pl go yg) → post ((nI L), br, gd, st, (nI (wd_e bk pl c)), ls, lc, (nI F), wr, op, fi, se, bk, sk, pl, wo, wf, le, en, bo, lo, go, ta, ou)) :
    wpX_reweave post ((nI L), br, gd, st, (nI q), ls, lc, (nI F), wr, op, fi, se, bk, sk, pl, wo, wf, le, en, bo, lo, go, ta, ou) := by
  refine br_f hst ⟨vp_in_nI (by omega) (by omega), nm_r (e' := nI c) (by rw [nI_clamp (by omega)]; exact hw) ⟨F - 1 + 1, ?_⟩⟩
  refine wd_x23 hL hF hF1 hc hp (F - 1) 1 (by omega) go ?_ (Nat.le_refl 1)
  intro f hf
  obtain ⟨g, q, a, b, c, d, e⟩ := hg f hf
  exact ⟨g, q, a, b, c, fun z => absurd z (by omega), fun _ => ⟨d, e⟩⟩
end
end
section
/-! X's planting -/
section
variable {L F : Nat} {br gd st pc ls lc wr ys co : Int32} {op fi se bk sk pl wo wf le en bo lo go ta ou yk yg yt la : Nat → Int32}
theorem wd_n1 : vp_nar .boolean 1 = 1 := rfl
theorem wd_n0 : vp_nar .boolean 0 = 0 := rfl
theorem wd_xpt {post : SX → Prop} {p : Int32} (hL : L ≤ 20) (h : ∀ pl' : Nat → Int32, (∀ j : Nat, pl j ≠ 0 → pl' j ≠ 0) → (∀ j : Nat, j < L → p = nI j → pl' j ≠ 0) → post ((nI L), br, gd, st, pc, ls, lc, (nI F), wr, op, fi, se, bk, sk, pl', wo, wf, le, en, bo, lo, go, ta, ou)) : wpX_plant post ((nI L), br, gd, st, pc, ls, lc, (nI F), wr, op, fi, se, bk, sk, pl, wo, wf, le, en, bo, lo, go, ta, ou) p := by
  unfold wpX_plant
  dsimp only
  rcases wd_ix hL p with k | ⟨j, hj, k⟩
  · exact wd_xno1 k (br_f (by decide) (h pl (fun _ z => z) (fun j hj e => (wd_nw hL k hj e).elim)))
  · subst k
    refine wd_xno0 hL hj (br_t rfl ⟨vp_in_nI (by omega) (by omega), nm_r (e' := upd pl j 1) (by rw [nI_clamp (by omega), wd_n1]) (h _ ?_ ?_)⟩)
    · intro i hi
      by_cases e : i = j
      · subst e; rw [pk_us]; decide
      · rw [pk_un e]; exact hi
    · intro i hi e
      have e := (nI_eq (by omega) (by omega)).mp e
      subst e; rw [pk_us]; decide
/-- what is planted ahead of a step from instruction i -/
def wd_PN (L F i o : Nat) (w : Int32) (se yg pl : Nat → Int32) : Prop :=
  (o = 9 → 2 ≤ F → ∀ g : Nat, g < L → yg (F - 2) = nI g → pl g ≠ 0) ∧ (o ≠ 9 → i + 1 < L → pl (i + 1) ≠ 0) ∧ ((5 ≤ o ∧ o ≤ 7) ∨ (o = 8 ∧ w ≠ 0) → ∀ g : Nat, g < L → se i = nI g → pl g ≠ 0)
theorem wd_x80 {post : SX → Prop} {i : Nat} (hL : L ≤ 20) (hi : i < L) (h : ∀ pl' : Nat → Int32, (∀ j : Nat, pl j ≠ 0 → pl' j ≠ 0) → (∀ j : Nat, j < L → se i = nI j → pl' j ≠ 0) → post ((nI L), br, gd, st, pc, ls, lc, (nI F), wr, op, fi, se, bk, sk, pl', wo, wf, le, en, bo, lo, go, ta, ou)) : wX_plantNext_80 post (nI i) (nI L) br gd st pc ls lc (nI F) wr op fi se bk sk pl wo wf le en bo lo go ta ou := by
  unfold wX_plantNext_80
  rw [nI_clamp (show i < 2 ^ 31 by omega)]
  exact ⟨vp_in_nI (by omega) (by omega), wd_xpt hL h⟩
theorem wd_xpr {post : SX → Prop} {f : Nat} (hL : L ≤ 20) (hF : F ≤ 6) (hf : f + 2 = F) (hW : (wd_W L op se bk pl wo wf le en bo)) (hG : (wd_FG L F bk pl go yg))
    (h : ∀ pl' : Nat → Int32, (∀ j : Nat, j < L → yg f = nI j → pl' j ≠ 0) → post ((nI L), br, gd, st, pc, ls, lc, (nI F), wr, op, fi, se, bk, sk, pl', wo, wf, le, en, bo, lo, go, ta, ou)) :
    vp_in (nI F - 1) 6 ∧ (vp_in (go (nI F - 1).toNatClampNeg) 48 ∧ wpX_plant post ((nI L), br, gd, st, pc, ls, lc, (nI F), wr, op, fi, se, bk, sk, pl, wo, wf, le, en, bo, lo, go, ta, ou) (wf (go (nI F - 1).toNatClampNeg).toNatClampNeg)) := by
  obtain ⟨g, a, b, c⟩ := hG f (by omega)
  have d := wd_e_le (bk := bk) (pl := pl) g
  have e : nI F - 1 = nI (f + 1) := by rw [← hf]; exact nI_pred (f + 1)
  rw [e, nI_clamp (show f + 1 < 2 ^ 31 by omega), c, nI_clamp (show wd_e bk pl g < 2 ^ 31 by omega), wd_W_wf hW a]
  refine ⟨vp_in_nI (by omega) (by omega), vp_in_nI (by omega) (by omega), wd_xpt hL (fun pl' _ k => h pl' (fun j hj z => k j hj (b ▸ z)))⟩
theorem wd_xpn {post : SX → Prop} {i o q : Nat} {w : Int32} (hL : L ≤ 20) (hF : F ≤ 6) (hF1 : 1 ≤ F) (hi : i < L) (hq : q < 48) (hw : wf q = nI i) (ho : o ≤ 10) (hop : op i = nI o) (hW : (wd_W L op se bk pl wo wf le en bo)) (hG : (wd_FG L F bk pl go yg))
    (h : ∀ pl' : Nat → Int32, wd_PN L F i o w se yg pl' → post ((nI L), br, gd, st, (nI q), ls, lc, (nI F), wr, op, fi, se, bk, sk, pl', wo, wf, le, en, bo, lo, go, ta, ou)) : wpX_plantNext post ((nI L), br, gd, st, (nI q), ls, lc, (nI F), wr, op, fi, se, bk, sk, pl, wo, wf, le, en, bo, lo, go, ta, ou) w := by
  refine And.intro (vp_in_nI (by omega) (by omega)) (nm_r (e' := nI i) (by rw [nI_clamp (by omega)]; exact hw) ⟨vp_in_nI (by omega) (by omega), nm_r (e' := nI o) (by rw [nI_clamp (by omega)]; exact hop) (pk_eq o 9 (fun e => ?_) (fun e => ?_))⟩)
  · refine pk_le F 1 (fun f => ?_) (fun f => ?_)
    · exact h pl ⟨fun _ z => absurd z (by omega), fun z => absurd e z, fun z => absurd z (by omega)⟩
    · exact wd_xpr (f := F - 2) hL hF (by omega) hW hG (fun pl' k => h pl' ⟨fun _ _ => k, fun z => absurd e z, fun z => absurd z (by omega)⟩)
  · rw [nI_1]
    refine wd_xpt hL (fun pl1 k1 k2 => ?_)
    have n1 : i + 1 < L → pl1 (i + 1) ≠ 0 := fun z => k2 _ z rfl
    have K : ∀ pl2 : Nat → Int32, (∀ j : Nat, pl1 j ≠ 0 → pl2 j ≠ 0) → (∀ j : Nat, j < L → se i = nI j → pl2 j ≠ 0) → post ((nI L), br, gd, st, (nI q), ls, lc, (nI F), wr, op, fi, se, bk, sk, pl2, wo, wf, le, en, bo, lo, go, ta, ou) :=
      fun pl2 k3 k4 => h pl2 ⟨fun z => absurd z e, fun _ z => k3 _ (n1 z), fun _ => k4⟩
    have K7 : ¬ (5 ≤ o ∧ o ≤ 7) → wX_plantNext_70 post w (nI i) (nI o) (nI L) br gd st (nI q) ls lc (nI F) wr op fi se bk sk pl1 wo wf le en bo lo go ta ou := by
      intro ho
      refine pk_eq o 8 (fun z => br_c (fun y => ?_) (fun y => ?_)) (fun z => ?_)
      · exact h pl1 ⟨fun z => absurd z e, fun _ => n1, fun z' => absurd z' (fun z' => z'.elim ho (fun x => x.2 y))⟩
      · exact wd_x80 hL hi K
      · exact h pl1 ⟨fun z => absurd z e, fun _ => n1, fun z' => absurd z' (fun z' => z'.elim ho (fun x => z x.1))⟩
    refine pk_lt o 5 (fun z => K7 (by omega)) (fun z => pk_le o 7 (fun z => wd_x80 hL hi K) (fun z => K7 (by omega)))
theorem wd_xun {post : SX → Prop} (h : ∀ pl : Nat → Int32, wd_Z pl → post ((nI L), br, gd, st, pc, ls, lc, (nI F), wr, op, fi, se, bk, sk, pl, wo, wf, le, en, bo, lo, go, ta, ou)) : wpX_unplantAll post ((nI L), br, gd, st, pc, ls, lc, (nI F), wr, op, fi, se, bk, sk, pl, wo, wf, le, en, bo, lo, go, ta, ou) := by
  have H : ∀ (m i : Nat), i + m = 20 → ∀ pl : Nat → Int32, (∀ j : Nat, j < i → pl j = 0) → wX_unplantAll_2 post (nI L) br gd st pc ls lc (nI F) wr (m + 1) (nI i) op fi se bk sk pl wo wf le en bo lo go ta ou := by
    intro m
    induction m with
    | zero =>
      intro i hi pl hp
      have e : i = 20 := by omega
      subst e
      exact br_t (Int32.le_refl _) (h pl hp)
    | succ m ih =>
      intro i hi pl hp
      rw [wX_unplantAll_2]
      dsimp only
      rw [nI_clamp (show i < 2 ^ 31 by omega), wd_n0]
      refine br_f (nI_ge (b := 20) (by omega) (by decide)) ⟨vp_in_nI (by omega) (by omega), nm_e (nm_r (nI_1 i) (ih (i + 1) (by omega) _ ?_))⟩
      intro j hj
      by_cases e : j = i
      · subst e; exact pk_us
      · rw [pk_un e]; exact hp j (by omega)
  exact Exists.intro 21 (H 20 0 rfl pl (fun j hj => absurd hj (Nat.not_lt_zero j)))
end
end
section
/-! one operation of X -/
section
variable {L F f i o a b d z x y : Nat} {br gd st pc ls lc wr ys co v g : Int32} {op fi se bk sk pl wo wf le en bo lo go ta ou yk yg yt la : Nat → Int32} {post : SX → Prop}
theorem wd_bs (f : Nat) : (nI (f + 1) - 1) * 4 = nI (f * 4) := by
  rw [nI_pred]
  exact pk_mul f 4
theorem wd_xb {post : Int32 → Prop} (h : post (nI (f * 4))) : wpX_base post ((nI L), br, gd, st, pc, ls, lc, (nI (f + 1)), wr, op, fi, se, bk, sk, pl, wo, wf, le, en, bo, lo, go, ta, ou) := by
  show post ((nI (f + 1) - 1) * 4)
  rw [wd_bs]
  exact h
/-- what the five plain operations store -/
def wd_cp (o x y : Nat) (v : Int32) (lo : Nat → Int32) : Nat → Int32 := upd lo x (if o = 0 then v else if o = 1 then lo y else if o = 2 then lo x + lo y else if o = 3 then lo x - lo y else lo x * lo y)
theorem wd_xcp (ho : o ≤ 4) (hx : x < 24) (hy : y < 24) (h : post ((nI L), br, gd, st, pc, ls, lc, (nI F), wr, op, fi, se, bk, sk, pl, wo, wf, le, en, bo, (wd_cp o x y v lo), go, ta, ou)) : wpX_compute post ((nI L), br, gd, st, pc, ls, lc, (nI F), wr, op, fi, se, bk, sk, pl, wo, wf, le, en, bo, lo, go, ta, ou) (nI o) (nI x) (nI y) v := by
  have e : o = 0 ∨ o = 1 ∨ o = 2 ∨ o = 3 ∨ o = 4 := by omega
  have vx : vp_in (nI x) 24 := vp_in_nI (by omega) (by omega)
  have vy : vp_in (nI y) 24 := vp_in_nI (by omega) (by omega)
  have cx : (nI x).toNatClampNeg = x := by rw [nI_clamp (by omega)]
  have cy : (nI y).toNatClampNeg = y := by rw [nI_clamp (by omega)]
  rcases e with rfl | rfl | rfl | rfl | rfl
  · exact br_f (by decide) (br_f (by decide) (br_t (by decide) ⟨vx, nm_r (e' := wd_cp 0 x y v lo) (by rw [cx]; rfl) h⟩))
  · exact br_f (by decide) (br_f (by decide) (br_f (by decide) (br_t (by decide) ⟨vy, vx, nm_r (e' := wd_cp 1 x y v lo) (by rw [cx, cy]; rfl) h⟩)))
  · exact br_f (by decide) (br_f (by decide) (br_f (by decide) (br_f (by decide) (br_t (by decide) ⟨vx, vy, vx, nm_r (e' := wd_cp 2 x y v lo) (by rw [cx, cy]; rfl) h⟩))))
  · exact br_f (by decide) (br_f (by decide) (br_f (by decide) (br_f (by decide) (br_f (by decide) (br_t (by decide) ⟨vx, vy, vx, nm_r (e' := wd_cp 3 x y v lo) (by rw [cx, cy]; rfl) h⟩)))))
  · exact br_f (by decide) (br_t (by decide) ⟨vx, vy, vx, nm_r (e' := wd_cp 4 x y v lo) (by rw [cx, cy]; rfl) h⟩)
theorem wd_xpC (hi : i < 20) (hd : d < 48) (hw : wf d = nI i) (hop : op i = nI o) (hf : f < 6) (ha4 : a < 4) (hb4 : b < 4) (ha : fi i &&& 3 = nI a) (hb : se i &&& 3 = nI b) (ho : o ≤ 4) (h : post ((nI L), br, gd, st, (nI (d + 1)), ls, lc, (nI (f + 1)), wr, op, fi, se, bk, sk, pl, wo, wf, le, en, bo, (wd_cp o (f * 4 + a) (f * 4 + b) (se i) lo), go, ta, ou)) : wpX_perform post ((nI L), br, gd, st, (nI d), ls, lc, (nI (f + 1)), wr, op, fi, se, bk, sk, pl, wo, wf, le, en, bo, lo, go, ta, ou) := by
  refine And.intro (vp_in_nI (by omega) (by omega)) (nm_r (e' := nI i) (by rw [nI_clamp (by omega)]; exact hw) ⟨vp_in_nI (by omega) (by omega), nm_r (e' := nI o) (by rw [nI_clamp (by omega)]; exact hop) (wd_xb ⟨vp_in_nI (by omega) (by omega), nm_r (e' := nI (f * 4 + a)) (by rw [nI_clamp (by omega)]; rw [ha, nI_add]) (wd_xb ⟨vp_in_nI (by omega) (by omega), nm_r (e' := nI (f * 4 + b)) (by rw [nI_clamp (by omega)]; rw [hb, nI_add]) ?_⟩)⟩)⟩)
  refine pk_lt 4 o (fun z => absurd z (by omega)) (fun _ => ⟨vp_in_nI (by omega) (by omega), ?_⟩)
  rw [nI_clamp (by omega)]
  exact wd_xcp ho (by omega) (by omega) (nm_r (nI_1 d) h)
/-- does the jump go? -/
def wd_go (o x z : Nat) (lo : Nat → Int32) : Prop := o = 5 ∨ (o = 6 ∧ lo x < lo z) ∨ (o = 7 ∧ lo x = 0)
theorem wd_xpJ (hi : i < 20) (hd : d < 48) (hw : wf d = nI i) (hop : op i = nI o) (hf : f < 6) (ha4 : a < 4) (hb4 : b < 4) (ha : fi i &&& 3 = nI a) (hb : se i &&& 3 = nI b) (hz4 : z < 4) (hz : (fi i >>> ((2 : Int32) &&& 31)) &&& 3 = nI z) (ho : 5 ≤ o ∧ o ≤ 7) (hg : (wd_go o (f * 4 + a) (f * 4 + z) lo ∧ g = 1) ∨ (¬ wd_go o (f * 4 + a) (f * 4 + z) lo ∧ g = 0))
    (h : wX_perform_160 post (nI i) g (nI L) br gd st (nI d) ls lc (nI (f + 1)) wr op fi se bk sk pl wo wf le en bo lo go ta ou) : wpX_perform post ((nI L), br, gd, st, (nI d), ls, lc, (nI (f + 1)), wr, op, fi, se, bk, sk, pl, wo, wf, le, en, bo, lo, go, ta, ou) := by
  have e : o = 5 ∨ o = 6 ∨ o = 7 := by omega
  refine And.intro (vp_in_nI (by omega) (by omega)) (nm_r (e' := nI i) (by rw [nI_clamp (by omega)]; exact hw) ⟨vp_in_nI (by omega) (by omega), nm_r (e' := nI o) (by rw [nI_clamp (by omega)]; exact hop) (wd_xb ⟨vp_in_nI (by omega) (by omega), nm_r (e' := nI (f * 4 + a)) (by rw [nI_clamp (by omega)]; rw [ha, nI_add]) (wd_xb ⟨vp_in_nI (by omega) (by omega), nm_r (e' := nI (f * 4 + b)) (by rw [nI_clamp (by omega)]; rw [hb, nI_add]) ?_⟩)⟩)⟩)
  rcases e with rfl | rfl | rfl
  · have e : g = 1 := by
      rcases hg with k | k
      · exact k.2
      · exact absurd (Or.inl rfl) k.1
    subst e
    exact br_t (by decide) (br_f (by decide) (br_t (by decide) (br_f (by decide) (br_f (by decide) h))))
  · have e : nI (f * 4) + ((fi (nI i).toNatClampNeg >>> ((2 : Int32) &&& 31)) &&& 3) = nI (f * 4 + z) := by rw [nI_clamp (by omega)]; rw [hz, nI_add]
    refine br_t (by decide) (br_f (by decide) (br_f (by decide) (br_t (by decide) ⟨vp_in_nI (by omega) (by omega), wd_xb ⟨vp_in_nI (by omega) (by omega), ?_⟩⟩)))
    rw [e, nI_clamp (show f * 4 + z < 2 ^ 31 by omega), nI_clamp (show f * 4 + a < 2 ^ 31 by omega)]
    refine ⟨vp_in_nI (by omega) (by omega), ?_⟩
    rcases hg with ⟨k, rfl⟩ | ⟨k, rfl⟩
    · have k : lo (f * 4 + a) < lo (f * 4 + z) := by
        rcases k with k | k | k
        · exact absurd k (by decide)
        · exact k.2
        · exact absurd k.1 (by decide)
      exact br_f (Int32.not_le.mpr k) (br_f (by decide) h)
    · have k : ¬ lo (f * 4 + a) < lo (f * 4 + z) := fun y => k (Or.inr (Or.inl ⟨rfl, y⟩))
      exact br_t (Int32.not_lt.mp k) (br_f (by decide) h)
  · refine br_t (by decide) (br_f (by decide) (br_f (by decide) (br_f (by decide) (br_t (by decide) ⟨vp_in_nI (by omega) (by omega), ?_⟩))))
    rw [nI_clamp (show f * 4 + a < 2 ^ 31 by omega)]
    rcases hg with ⟨k, rfl⟩ | ⟨k, rfl⟩
    · have k : lo (f * 4 + a) = 0 := by
        rcases k with k | k | k
        · exact absurd k (by decide)
        · exact absurd k.1 (by decide)
        · exact k.2
      exact br_t k h
    · have k : ¬ lo (f * 4 + a) = 0 := fun y => k (Or.inr (Or.inr ⟨rfl, y⟩))
      exact br_f k h
theorem wd_xjp (hi : i < 20) (hd : d < 48) (hj : ∀ j : Nat, j < L → wd_e bk pl j < 48) (hl : wd_ld L bk pl (se i) (le d)) (hA : ∀ j : Nat, j < L → se i = nI j → post ((nI L), br, gd, st, (nI (wd_e bk pl j)), ls, lc, (nI F), wr, op, fi, se, bk, sk, pl, wo, wf, le, en, bo, lo, go, ta, ou)) (hB : (se i < 0 ∨ nI L ≤ se i) → post ((nI L), br, gd, 6, (nI d), 1, (se i), (nI F), wr, op, fi, se, bk, sk, pl, wo, wf, le, en, bo, lo, go, ta, ou)) :
    wpX_jump post ((nI L), br, gd, st, (nI d), ls, lc, (nI F), wr, op, fi, se, bk, sk, pl, wo, wf, le, en, bo, lo, go, ta, ou) (nI i) := by
  refine And.intro (vp_in_nI (by omega) (by omega)) ?_
  rw [nI_clamp (show d < 2 ^ 31 by omega)]
  rcases hl with ⟨h1, h2⟩ | ⟨j, h1, h2, h3⟩
  · exact br_t (by rw [h2]; decide) ⟨vp_in_nI (by omega) (by omega), nm_r (e' := se i) (by rw [nI_clamp (by omega)]) (hB h1)⟩
  · exact br_f (by rw [h3]; exact nI_pos (by have := hj j h1; omega)) ⟨vp_in_nI (by omega) (by omega), nm_r h3 (hA j h1 h2)⟩
theorem wd_x160 (hi : i < 20) (hd : d < 48) (hj : ∀ j : Nat, j < L → wd_e bk pl j < 48) (hl : wd_ld L bk pl (se i) (le d)) (hA : ∀ j : Nat, j < L → se i = nI j → post ((nI L), br, gd, st, (nI (wd_e bk pl j)), ls, lc, (nI F), wr, op, fi, se, bk, sk, pl, wo, wf, le, en, bo, lo, go, ta, ou)) (hB : (se i < 0 ∨ nI L ≤ se i) → post ((nI L), br, gd, 6, (nI d), 1, (se i), (nI F), wr, op, fi, se, bk, sk, pl, wo, wf, le, en, bo, lo, go, ta, ou)) :
    wX_perform_160 post (nI i) 1 (nI L) br gd st (nI d) ls lc (nI F) wr op fi se bk sk pl wo wf le en bo lo go ta ou :=
  br_f (by decide) (wd_xjp hi hd hj hl hA hB)
theorem wd_x160n (h : post ((nI L), br, gd, st, (nI (d + 1)), ls, lc, (nI F), wr, op, fi, se, bk, sk, pl, wo, wf, le, en, bo, lo, go, ta, ou)) : wX_perform_160 post (nI i) 0 (nI L) br gd st (nI d) ls lc (nI F) wr op fi se bk sk pl wo wf le en bo lo go ta ou :=
  br_t rfl (nm_r (nI_1 d) h)
/-- a new frame's values -/
def wd_cl (f : Nat) (v : Int32) (lo : Nat → Int32) : Nat → Int32 := fun j => if j = (f + 1) * 4 then v else if (f + 1) * 4 ≤ j ∧ j < (f + 1) * 4 + 4 then 0 else lo j
theorem wd_x68 (hf : f < 5) (hi : i < 20) (hd : d < 48) (hj : ∀ j : Nat, j < L → wd_e bk pl j < 48) (hl : wd_ld L bk pl (se i) (le d)) (hA : ∀ j : Nat, j < L → se i = nI j → post ((nI L), br, gd, st, (nI (wd_e bk pl j)), ls, lc, (nI (f + 1 + 1)), wr, op, fi, se, bk, sk, pl, wo, wf, le, en, bo, (wd_cl f v lo), go, ta, ou)) (hB : (se i < 0 ∨ nI L ≤ se i) → post ((nI L), br, gd, 6, (nI d), 1, (se i), (nI (f + 1 + 1)), wr, op, fi, se, bk, sk, pl, wo, wf, le, en, bo, (wd_cl f v lo), go, ta, ou)) :
    ∀ (m k : Nat), k + m = 4 → ∀ lo' : Nat → Int32, (∀ j : Nat, lo' j = if (f + 1) * 4 ≤ j ∧ j < (f + 1) * 4 + k then 0 else lo j) → wX_call_68 post (nI i) v (nI L) br gd st (nI d) ls lc (nI (f + 1 + 1)) wr (m + 1) (nI k) op fi se bk sk pl wo wf le en bo lo' go ta ou := by
  intro m
  induction m with
  | zero =>
    intro k hk lo' h
    have e : k = 4 := by omega
    subst e
    refine br_t (Int32.le_refl _) (wd_xb ⟨vp_in_nI (by omega) (by omega), nm_r (e' := wd_cl f v lo) ?_ (wd_xjp hi hd hj hl hA hB)⟩)
    rw [nI_clamp (by omega)]
    funext j
    show (if j = (f + 1) * 4 then v else lo' j) = (if j = (f + 1) * 4 then v else if (f + 1) * 4 ≤ j ∧ j < (f + 1) * 4 + 4 then 0 else lo j)
    rw [h j]
  | succ m ih =>
    intro k hk lo' h
    refine br_f (nI_ge (b := 4) (by omega) (by decide)) (wd_xb ?_)
    rw [nI_add, nI_clamp (show (f + 1) * 4 + k < 2 ^ 31 by omega)]
    refine ⟨vp_in_nI (by omega) (by omega), nm_e (nm_r (nI_1 k) (ih (k + 1) (by omega) _ ?_))⟩
    intro j
    by_cases e : j = (f + 1) * 4 + k
    · rw [e, pk_us, if_pos (by omega)]
    · rw [pk_un e, h j]
      by_cases q : (f + 1) * 4 ≤ j ∧ j < (f + 1) * 4 + k
      · rw [if_pos q, if_pos (by omega)]
      · rw [if_neg q, if_neg (by omega)]
theorem wd_xpK6 (hf5 : f = 5) (hi : i < 20) (hd : d < 48) (hw : wf d = nI i) (hop : op i = nI o) (hf : f < 6) (ha4 : a < 4) (hb4 : b < 4) (ha : fi i &&& 3 = nI a) (hb : se i &&& 3 = nI b) (ho : o = 8) (h : post ((nI L), br, gd, 6, (nI d), ls, lc, (nI (f + 1)), wr, op, fi, se, bk, sk, pl, wo, wf, le, en, bo, lo, go, ta, ou)) : wpX_perform post ((nI L), br, gd, st, (nI d), ls, lc, (nI (f + 1)), wr, op, fi, se, bk, sk, pl, wo, wf, le, en, bo, lo, go, ta, ou) := by
  refine And.intro (vp_in_nI (by omega) (by omega)) (nm_r (e' := nI i) (by rw [nI_clamp (by omega)]; exact hw) ⟨vp_in_nI (by omega) (by omega), nm_r (e' := nI o) (by rw [nI_clamp (by omega)]; exact hop) (wd_xb ⟨vp_in_nI (by omega) (by omega), nm_r (e' := nI (f * 4 + a)) (by rw [nI_clamp (by omega)]; rw [ha, nI_add]) (wd_xb ⟨vp_in_nI (by omega) (by omega), nm_r (e' := nI (f * 4 + b)) (by rw [nI_clamp (by omega)]; rw [hb, nI_add]) ?_⟩)⟩)⟩)
  subst ho
  exact br_t (by decide) (br_t (by decide) (br_t (by decide) (br_f (by rw [hf5]; decide) h)))
theorem wd_xpK (hf5 : f < 5) (hi : i < 20) (hd : d < 48) (hw : wf d = nI i) (hop : op i = nI o) (hf : f < 6) (ha4 : a < 4) (hb4 : b < 4) (ha : fi i &&& 3 = nI a) (hb : se i &&& 3 = nI b) (ho : o = 8) (hj : ∀ j : Nat, j < L → wd_e bk pl j < 48) (hl : wd_ld L bk pl (se i) (le d))
    (hA : ∀ j : Nat, j < L → se i = nI j → post ((nI L), br, gd, st, (nI (wd_e bk pl j)), ls, lc, (nI (f + 1 + 1)), wr, op, fi, se, bk, sk, pl, wo, wf, le, en, bo, (wd_cl f (lo (f * 4 + a)) lo), (upd go (f + 1) (nI (d + 1))), (upd ta (f + 1) (nI a)), ou))
    (hB : (se i < 0 ∨ nI L ≤ se i) → post ((nI L), br, gd, 6, (nI d), 1, (se i), (nI (f + 1 + 1)), wr, op, fi, se, bk, sk, pl, wo, wf, le, en, bo, (wd_cl f (lo (f * 4 + a)) lo), (upd go (f + 1) (nI (d + 1))), (upd ta (f + 1) (nI a)), ou)) : wpX_perform post ((nI L), br, gd, st, (nI d), ls, lc, (nI (f + 1)), wr, op, fi, se, bk, sk, pl, wo, wf, le, en, bo, lo, go, ta, ou) := by
  refine And.intro (vp_in_nI (by omega) (by omega)) (nm_r (e' := nI i) (by rw [nI_clamp (by omega)]; exact hw) ⟨vp_in_nI (by omega) (by omega), nm_r (e' := nI o) (by rw [nI_clamp (by omega)]; exact hop) (wd_xb ⟨vp_in_nI (by omega) (by omega), nm_r (e' := nI (f * 4 + a)) (by rw [nI_clamp (by omega)]; rw [ha, nI_add]) (wd_xb ⟨vp_in_nI (by omega) (by omega), nm_r (e' := nI (f * 4 + b)) (by rw [nI_clamp (by omega)]; rw [hb, nI_add]) ?_⟩)⟩)⟩)
  subst ho
  refine br_t (by decide) (br_t (by decide) (br_t (by decide) (br_t (nI_lt (b := 6) (by omega) (by decide)) ⟨vp_in_nI (by omega) (by omega), nm_r (e' := lo (f * 4 + a)) (by rw [nI_clamp (by omega)]) ⟨vp_in_nI (by omega) (by omega), nm_r (e' := upd go (f + 1) (nI (d + 1))) (by rw [nI_clamp (by omega)]; rw [nI_1]) ⟨vp_in_nI (by omega) (by omega), vp_in_nI (by omega) (by omega), nm_r (e' := upd ta (f + 1) (nI a)) (by rw [nI_clamp (show f + 1 < 2 ^ 31 by omega), nI_clamp (show i < 2 ^ 31 by omega), ha]) (nm_r (nI_1 (f + 1)) ⟨5, ?_⟩)⟩⟩⟩)))
  exact wd_x68 hf5 hi hd hj hl hA hB 4 0 rfl lo (fun j => (if_neg (by omega)).symm)
theorem wd_xpR1 (hi : i < 20) (hd : d < 48) (hw : wf d = nI i) (hop : op i = nI o) (hf : f < 6) (ha4 : a < 4) (hb4 : b < 4) (ha : fi i &&& 3 = nI a) (hb : se i &&& 3 = nI b) (hf0 : f = 0) (ho : o = 9) (h : post ((nI L), br, gd, 5, (nI d), ls, lc, (nI (f + 1)), wr, op, fi, se, bk, sk, pl, wo, wf, le, en, bo, lo, go, ta, ou)) : wpX_perform post ((nI L), br, gd, st, (nI d), ls, lc, (nI (f + 1)), wr, op, fi, se, bk, sk, pl, wo, wf, le, en, bo, lo, go, ta, ou) := by
  refine And.intro (vp_in_nI (by omega) (by omega)) (nm_r (e' := nI i) (by rw [nI_clamp (by omega)]; exact hw) ⟨vp_in_nI (by omega) (by omega), nm_r (e' := nI o) (by rw [nI_clamp (by omega)]; exact hop) (wd_xb ⟨vp_in_nI (by omega) (by omega), nm_r (e' := nI (f * 4 + a)) (by rw [nI_clamp (by omega)]; rw [ha, nI_add]) (wd_xb ⟨vp_in_nI (by omega) (by omega), nm_r (e' := nI (f * 4 + b)) (by rw [nI_clamp (by omega)]; rw [hb, nI_add]) ?_⟩)⟩)⟩)
  subst ho
  exact br_t (by decide) (br_t (by decide) (br_f (by decide) (br_t (by decide) (br_t (by rw [hf0]; decide) h))))
end
section
variable {L F f i o a b d z x y t : Nat} {br gd st pc ls lc wr ys co v g : Int32} {op fi se bk sk pl wo wf le en bo lo go ta ou yk yg yt la : Nat → Int32} {post : SX → Prop}
theorem wd_xpR (hi : i < 20) (hd : d < 48) (hw : wf d = nI i) (hop : op i = nI o) (hf : f + 1 < 6) (ho : o = 9) (ht : t < 4) (hta : ta (f + 1) = nI t) (h : post ((nI L), br, gd, st, (go (f + 1)), ls, lc, (nI (f + 1)), wr, op, fi, se, bk, sk, pl, wo, wf, le, en, bo, (upd lo (f * 4 + t) (lo ((f + 1) * 4))), go, ta, ou)) : wpX_perform post ((nI L), br, gd, st, (nI d), ls, lc, (nI (f + 1 + 1)), wr, op, fi, se, bk, sk, pl, wo, wf, le, en, bo, lo, go, ta, ou) := by
  refine And.intro (vp_in_nI (by omega) (by omega)) (nm_r (e' := nI i) (by rw [nI_clamp (by omega)]; exact hw) ⟨vp_in_nI (by omega) (by omega), nm_r (e' := nI o) (by rw [nI_clamp (by omega)]; exact hop) (wd_xb ⟨vp_in_nI (by omega) (by omega), nm_e (wd_xb ⟨vp_in_nI (by omega) (by omega), nm_e ?_⟩)⟩)⟩)
  subst ho
  refine br_t (by decide) (br_t (by decide) (br_f (by decide) (br_t (by decide) (br_f ?_ (wd_xb ⟨vp_in_nI (by omega) (by omega), nm_r (e' := lo ((f + 1) * 4)) (by rw [nI_clamp (by omega)]) (nm_r (nI_pred (f + 1)) (wd_xb ?_))⟩)))))
  · intro z
    have := (nI_eq (b := 1) (by omega) (by decide)).mp z
    omega
  · dsimp only
    rw [nI_clamp (show f + 1 < 2 ^ 31 by omega), hta, nI_add, nI_clamp (show f * 4 + t < 2 ^ 31 by omega)]
    exact ⟨vp_in_nI (by omega) (by omega), vp_in_nI (by omega) (by omega), nm_e ⟨vp_in_nI (by omega) (by omega), nm_e h⟩⟩
theorem wd_xpO (hi : i < 20) (hd : d < 48) (hw : wf d = nI i) (hop : op i = nI o) (hf : f < 6) (ha4 : a < 4) (hb4 : b < 4) (ha : fi i &&& 3 = nI a) (hb : se i &&& 3 = nI b) (ho : o = 10) (h : post ((nI L), br, gd, st, (nI (d + 1)), ls, lc, (nI (f + 1)), (wr + 1), op, fi, se, bk, sk, pl, wo, wf, le, en, bo, lo, go, ta, (upd ou (wr &&& 7).toNatClampNeg (lo (f * 4 + a))))) : wpX_perform post ((nI L), br, gd, st, (nI d), ls, lc, (nI (f + 1)), wr, op, fi, se, bk, sk, pl, wo, wf, le, en, bo, lo, go, ta, ou) := by
  refine And.intro (vp_in_nI (by omega) (by omega)) (nm_r (e' := nI i) (by rw [nI_clamp (by omega)]; exact hw) ⟨vp_in_nI (by omega) (by omega), nm_r (e' := nI o) (by rw [nI_clamp (by omega)]; exact hop) (wd_xb ⟨vp_in_nI (by omega) (by omega), nm_r (e' := nI (f * 4 + a)) (by rw [nI_clamp (by omega)]; rw [ha, nI_add]) (wd_xb ⟨vp_in_nI (by omega) (by omega), nm_r (e' := nI (f * 4 + b)) (by rw [nI_clamp (by omega)]; rw [hb, nI_add]) ?_⟩)⟩)⟩)
  subst ho
  exact br_t (by decide) (br_t (by decide) (br_f (by decide) (br_f (by decide) ⟨vp_in_nI (by omega) (by omega), pk_andIn wr 3 (by decide) (by decide), nm_r (e' := upd ou (wr &&& 7).toNatClampNeg (lo (f * 4 + a))) (by rw [nI_clamp (show f * 4 + a < 2 ^ 31 by omega)]) (nm_e (nm_r (nI_1 d) h))⟩)))
end
end
section
/-! one operation of Y -/
section
variable {L F f i o a b d z x y t c : Nat} {br gd st pc ls lc wr ys co v g : Int32} {op fi se bk sk pl wo wf le en bo lo go ta ou yk yg yt la : Nat → Int32} {post : SY → Prop}
theorem wd_y467 (hL : L ≤ 20) (hc : c ≤ L) (h : post ((nI L), (if c < L then ys else 6), (nI F), (nI c), wr, op, fi, se, yk, lo, yg, yt, la)) : wY_carryOut_467 post (nI c) (nI L) ys (nI F) co wr op fi se yk lo yg yt la := by
  unfold wY_carryOut_467
  by_cases k : c < L
  · rw [if_pos k] at h
    exact wd_yno0 hL k (br_t rfl h)
  · rw [if_neg k] at h
    exact wd_yno1 (Or.inr (nI_le (by omega) (by omega))) (br_f (by decide) h)
theorem wd_y467n {p : Int32} (hp : p < 0 ∨ nI L ≤ p) (h : post ((nI L), 6, (nI F), p, wr, op, fi, se, yk, lo, yg, yt, la)) : wY_carryOut_467 post p (nI L) ys (nI F) co wr op fi se yk lo yg yt la := by
  unfold wY_carryOut_467
  exact wd_yno1 hp (br_f (by decide) h)
theorem wd_yo (h : post ((nI L), ys, (nI F), co, (wr + 1), op, fi, se, yk, lo, yg, yt, (upd (wd_sh 0 la) 0 v))) : wpY_out post ((nI L), ys, (nI F), co, wr, op, fi, se, yk, lo, yg, yt, la) v := by
  have H : ∀ m : Nat, m ≤ 7 → wY_out_3 post v (nI L) ys (nI F) co wr (m + 1) (nI m) op fi se yk lo yg yt (wd_sh m la) := by
    intro m
    induction m with
    | zero =>
      intro _
      exact br_t (Int32.le_refl _) (nm_e (nm_e h))
    | succ m ih =>
      intro hm
      rw [wY_out_3]
      dsimp only
      rw [nI_pred, nI_clamp (show m < 2 ^ 31 by omega), nI_clamp (show m + 1 < 2 ^ 31 by omega)]
      exact br_f (nI_nle (by omega) (by omega)) ⟨vp_in_nI (by omega) (by omega), vp_in_nI (by omega) (by omega), nm_r (wd_sh_s (by omega)) (nm_r (pk_m1 m) (ih (by omega)))⟩
  have k := H 7 (Nat.le_refl 7)
  rw [wd_sh_7] at k
  exact Exists.intro 8 k
theorem wd_ycC (hi : i < 20) (hop : op i = nI o) (hf : f < 6) (ha4 : a < 4) (hb4 : b < 4) (ha : fi i &&& 3 = nI a) (hb : se i &&& 3 = nI b) (ho : o ≤ 4) (h : wY_carryOut_467 post (nI (i + 1)) (nI L) ys (nI (f + 1)) (nI i) wr op fi se yk (wd_cp o (f * 4 + a) (f * 4 + b) (se i) lo) yg yt la) : wpY_carryOut post ((nI L), ys, (nI (f + 1)), (nI i), wr, op, fi, se, yk, lo, yg, yt, la) := by
  have e : o = 0 ∨ o = 1 ∨ o = 2 ∨ o = 3 ∨ o = 4 := by omega
  have vx : vp_in (nI (f * 4 + a)) 24 := vp_in_nI (by omega) (by omega)
  have vy : vp_in (nI (f * 4 + b)) 24 := vp_in_nI (by omega) (by omega)
  have cx : (nI (f * 4 + a)).toNatClampNeg = f * 4 + a := by rw [nI_clamp (by omega)]
  have cy : (nI (f * 4 + b)).toNatClampNeg = f * 4 + b := by rw [nI_clamp (by omega)]
  refine And.intro (vp_in_nI (by omega) (by omega)) (nm_r (e' := nI o) (by rw [nI_clamp (by omega)]; exact hop) ⟨vp_in_nI (by omega) (by omega), nm_r (e' := fi i) (by rw [nI_clamp (by omega)]) ⟨vp_in_nI (by omega) (by omega), nm_r (e' := se i) (by rw [nI_clamp (by omega)]) (nm_r (wd_bs f) (nm_r (e' := nI (f * 4 + a)) (by rw [ha, nI_add]) (nm_r (e' := nI (f * 4 + b)) (by rw [hb, nI_add]) (nm_r (nI_1 i) ?_))))⟩⟩)
  rcases e with rfl | rfl | rfl | rfl | rfl
  · exact br_t (by decide) ⟨vx, nm_r (e' := wd_cp 0 (f * 4 + a) (f * 4 + b) (se i) lo) (by rw [cx]; rfl) h⟩
  · exact br_f (by decide) (br_t (by decide) ⟨vy, vx, nm_r (e' := wd_cp 1 (f * 4 + a) (f * 4 + b) (se i) lo) (by rw [cx, cy]; rfl) h⟩)
  · exact br_f (by decide) (br_f (by decide) (br_t (by decide) ⟨vx, vy, vx, nm_r (e' := wd_cp 2 (f * 4 + a) (f * 4 + b) (se i) lo) (by rw [cx, cy]; rfl) h⟩))
  · exact br_f (by decide) (br_f (by decide) (br_f (by decide) (br_t (by decide) ⟨vx, vy, vx, nm_r (e' := wd_cp 3 (f * 4 + a) (f * 4 + b) (se i) lo) (by rw [cx, cy]; rfl) h⟩)))
  · exact br_f (by decide) (br_f (by decide) (br_f (by decide) (br_f (by decide) (br_t (by decide) ⟨vx, vy, vx, nm_r (e' := wd_cp 4 (f * 4 + a) (f * 4 + b) (se i) lo) (by rw [cx, cy]; rfl) h⟩))))
theorem wd_ycJ (hi : i < 20) (hop : op i = nI o) (hf : f < 6) (ha4 : a < 4) (hb4 : b < 4) (ha : fi i &&& 3 = nI a) (hb : se i &&& 3 = nI b) (hz4 : z < 4) (hz : (fi i >>> ((2 : Int32) &&& 31)) &&& 3 = nI z) (ho : 5 ≤ o ∧ o ≤ 7) (hg : (wd_go o (f * 4 + a) (f * 4 + z) lo ∧ g = se i) ∨ (¬ wd_go o (f * 4 + a) (f * 4 + z) lo ∧ g = nI (i + 1)))
    (h : wY_carryOut_467 post g (nI L) ys (nI (f + 1)) (nI i) wr op fi se yk lo yg yt la) : wpY_carryOut post ((nI L), ys, (nI (f + 1)), (nI i), wr, op, fi, se, yk, lo, yg, yt, la) := by
  have e : o = 5 ∨ o = 6 ∨ o = 7 := by omega
  refine And.intro (vp_in_nI (by omega) (by omega)) (nm_r (e' := nI o) (by rw [nI_clamp (by omega)]; exact hop) ⟨vp_in_nI (by omega) (by omega), nm_r (e' := fi i) (by rw [nI_clamp (by omega)]) ⟨vp_in_nI (by omega) (by omega), nm_r (e' := se i) (by rw [nI_clamp (by omega)]) (nm_r (wd_bs f) (nm_r (e' := nI (f * 4 + a)) (by rw [ha, nI_add]) (nm_r (e' := nI (f * 4 + b)) (by rw [hb, nI_add]) (nm_r (nI_1 i) ?_))))⟩⟩)
  refine br_f ?_ (br_f ?_ (br_f ?_ (br_f ?_ (br_f ?_ ?_))))
  · intro k; have := (nI_eq (b := 0) (by omega) (by decide)).mp k; omega
  · intro k; have := (nI_eq (b := 1) (by omega) (by decide)).mp k; omega
  · intro k; have := (nI_eq (b := 2) (by omega) (by decide)).mp k; omega
  · intro k; have := (nI_eq (b := 3) (by omega) (by decide)).mp k; omega
  · intro k; have := (nI_eq (b := 4) (by omega) (by decide)).mp k; omega
  rcases e with rfl | rfl | rfl
  · have e : g = se i := by
      rcases hg with k | k
      · exact k.2
      · exact absurd (Or.inl rfl) k.1
    subst e
    exact br_t (by decide) h
  · refine br_f (by decide) (br_t (by decide) ⟨vp_in_nI (by omega) (by omega), ?_⟩)
    rw [hz, nI_add, nI_clamp (show f * 4 + z < 2 ^ 31 by omega), nI_clamp (show f * 4 + a < 2 ^ 31 by omega)]
    refine ⟨vp_in_nI (by omega) (by omega), ?_⟩
    rcases hg with ⟨k, rfl⟩ | ⟨k, rfl⟩
    · have k : lo (f * 4 + a) < lo (f * 4 + z) := by
        rcases k with k | k | k
        · exact absurd k (by decide)
        · exact k.2
        · exact absurd k.1 (by decide)
      exact br_f (Int32.not_le.mpr k) h
    · have k : ¬ lo (f * 4 + a) < lo (f * 4 + z) := fun y => k (Or.inr (Or.inl ⟨rfl, y⟩))
      exact br_t (Int32.not_lt.mp k) h
  · refine br_f (by decide) (br_f (by decide) (br_t (by decide) ⟨vp_in_nI (by omega) (by omega), ?_⟩))
    rw [nI_clamp (show f * 4 + a < 2 ^ 31 by omega)]
    rcases hg with ⟨k, rfl⟩ | ⟨k, rfl⟩
    · have k : lo (f * 4 + a) = 0 := by
        rcases k with k | k | k
        · exact absurd k (by decide)
        · exact absurd k.1 (by decide)
        · exact k.2
      exact br_t k h
    · have k : ¬ lo (f * 4 + a) = 0 := fun y => k (Or.inr (Or.inr ⟨rfl, y⟩))
      exact br_f k h
theorem wd_cl_eq {x : Nat} : upd (upd (upd (upd lo (f * 4 + 4) (lo x)) (f * 4 + 5) 0) (f * 4 + 6) 0) (f * 4 + 7) 0 = wd_cl f (lo x) lo := by
  funext j
  show (if j = f * 4 + 7 then (0 : Int32) else if j = f * 4 + 6 then 0 else if j = f * 4 + 5 then 0 else if j = f * 4 + 4 then lo x else lo j) = (if j = (f + 1) * 4 then lo x else if (f + 1) * 4 ≤ j ∧ j < (f + 1) * 4 + 4 then 0 else lo j)
  by_cases h4 : j = f * 4 + 4
  · rw [if_neg (by omega), if_neg (by omega), if_neg (by omega), if_pos h4, if_pos (by omega)]
  · rw [if_neg h4, if_neg (show ¬ j = (f + 1) * 4 by omega)]
    by_cases h5 : j = f * 4 + 7
    · rw [if_pos h5, if_pos (by omega)]
    · rw [if_neg h5]
      by_cases h6 : j = f * 4 + 6
      · rw [if_pos h6, if_pos (by omega)]
      · rw [if_neg h6]
        by_cases h7 : j = f * 4 + 5
        · rw [if_pos h7, if_pos (by omega)]
        · rw [if_neg h7, if_neg (by omega)]
theorem wd_ycK6 (hf5 : f = 5) (hi : i < 20) (hop : op i = nI o) (hf : f < 6) (ha4 : a < 4) (hb4 : b < 4) (ha : fi i &&& 3 = nI a) (hb : se i &&& 3 = nI b) (ho : o = 8) (h : post ((nI L), 6, (nI (f + 1)), (nI i), wr, op, fi, se, yk, lo, yg, yt, la)) : wpY_carryOut post ((nI L), ys, (nI (f + 1)), (nI i), wr, op, fi, se, yk, lo, yg, yt, la) := by
  refine And.intro (vp_in_nI (by omega) (by omega)) (nm_r (e' := nI o) (by rw [nI_clamp (by omega)]; exact hop) ⟨vp_in_nI (by omega) (by omega), nm_r (e' := fi i) (by rw [nI_clamp (by omega)]) ⟨vp_in_nI (by omega) (by omega), nm_r (e' := se i) (by rw [nI_clamp (by omega)]) (nm_r (wd_bs f) (nm_r (e' := nI (f * 4 + a)) (by rw [ha, nI_add]) (nm_r (e' := nI (f * 4 + b)) (by rw [hb, nI_add]) (nm_r (nI_1 i) ?_))))⟩⟩)
  subst ho
  exact br_f (by decide) (br_f (by decide) (br_f (by decide) (br_f (by decide) (br_f (by decide) (br_f (by decide) (br_f (by decide) (br_f (by decide) (br_t (by decide) (br_t (by rw [hf5]; decide) h)))))))))
theorem wd_ycK (hf5 : f < 5) (hi : i < 20) (hop : op i = nI o) (hf : f < 6) (ha4 : a < 4) (hb4 : b < 4) (ha : fi i &&& 3 = nI a) (hb : se i &&& 3 = nI b) (ho : o = 8) (h : wY_carryOut_467 post (se i) (nI L) ys (nI (f + 1 + 1)) (nI i) wr op fi se yk (wd_cl f (lo (f * 4 + a)) lo) (upd yg f (nI (i + 1))) (upd yt f (nI a)) la) : wpY_carryOut post ((nI L), ys, (nI (f + 1)), (nI i), wr, op, fi, se, yk, lo, yg, yt, la) := by
  refine And.intro (vp_in_nI (by omega) (by omega)) (nm_r (e' := nI o) (by rw [nI_clamp (by omega)]; exact hop) ⟨vp_in_nI (by omega) (by omega), nm_r (e' := fi i) (by rw [nI_clamp (by omega)]) ⟨vp_in_nI (by omega) (by omega), nm_r (e' := se i) (by rw [nI_clamp (by omega)]) (nm_r (wd_bs f) (nm_r (e' := nI (f * 4 + a)) (by rw [ha, nI_add]) (nm_r (e' := nI (f * 4 + b)) (by rw [hb, nI_add]) (nm_r (nI_1 i) ?_))))⟩⟩)
  subst ho
  refine br_f (by decide) (br_f (by decide) (br_f (by decide) (br_f (by decide) (br_f (by decide) (br_f (by decide) (br_f (by decide) (br_f (by decide) (br_t (by decide) (br_f ?_ ?_)))))))))
  · intro k; have := (nI_eq (b := 6) (by omega) (by decide)).mp k; omega
  · have e4 : nI (f * 4) + 4 = nI (f * 4 + 4) := nI_add (f * 4) 4
    have e5 : nI (f * 4) + 5 = nI (f * 4 + 5) := nI_add (f * 4) 5
    have e6 : nI (f * 4) + 6 = nI (f * 4 + 6) := nI_add (f * 4) 6
    have e7 : nI (f * 4) + 7 = nI (f * 4 + 7) := nI_add (f * 4) 7
    rw [nI_pred, e4, e5, e6, e7, nI_clamp (show f < 2 ^ 31 by omega), nI_clamp (show f * 4 + a < 2 ^ 31 by omega), nI_clamp (show f * 4 + 4 < 2 ^ 31 by omega), nI_clamp (show f * 4 + 5 < 2 ^ 31 by omega), nI_clamp (show f * 4 + 6 < 2 ^ 31 by omega), nI_clamp (show f * 4 + 7 < 2 ^ 31 by omega), ha]
    refine ⟨vp_in_nI (by omega) (by omega), nm_e ⟨vp_in_nI (by omega) (by omega), nm_e ⟨vp_in_nI (by omega) (by omega), vp_in_nI (by omega) (by omega), nm_e ⟨vp_in_nI (by omega) (by omega), nm_e ⟨vp_in_nI (by omega) (by omega), nm_e ⟨vp_in_nI (by omega) (by omega), nm_r wd_cl_eq (nm_r (nI_1 (f + 1)) h)⟩⟩⟩⟩⟩⟩
theorem wd_ycR1 (hi : i < 20) (hop : op i = nI o) (hf : f < 6) (ha4 : a < 4) (hb4 : b < 4) (ha : fi i &&& 3 = nI a) (hb : se i &&& 3 = nI b) (hf0 : f = 0) (ho : o = 9) (h : post ((nI L), 5, (nI (f + 1)), (nI i), wr, op, fi, se, yk, lo, yg, yt, la)) : wpY_carryOut post ((nI L), ys, (nI (f + 1)), (nI i), wr, op, fi, se, yk, lo, yg, yt, la) := by
  refine And.intro (vp_in_nI (by omega) (by omega)) (nm_r (e' := nI o) (by rw [nI_clamp (by omega)]; exact hop) ⟨vp_in_nI (by omega) (by omega), nm_r (e' := fi i) (by rw [nI_clamp (by omega)]) ⟨vp_in_nI (by omega) (by omega), nm_r (e' := se i) (by rw [nI_clamp (by omega)]) (nm_r (wd_bs f) (nm_r (e' := nI (f * 4 + a)) (by rw [ha, nI_add]) (nm_r (e' := nI (f * 4 + b)) (by rw [hb, nI_add]) (nm_r (nI_1 i) ?_))))⟩⟩)
  subst ho
  exact br_f (by decide) (br_f (by decide) (br_f (by decide) (br_f (by decide) (br_f (by decide) (br_f (by decide) (br_f (by decide) (br_f (by decide) (br_f (by decide) (br_t (by decide) (br_t (by rw [hf0]; decide) h))))))))))
theorem wd_ycR (hi : i < 20) (hop : op i = nI o) (hf : f + 1 < 6) (ho : o = 9) (ht : t < 4) (hyt : yt f = nI t) (h : wY_carryOut_467 post (yg f) (nI L) ys (nI (f + 1)) (nI i) wr op fi se yk (upd lo (f * 4 + t) (lo ((f + 1) * 4))) yg yt la) : wpY_carryOut post ((nI L), ys, (nI (f + 1 + 1)), (nI i), wr, op, fi, se, yk, lo, yg, yt, la) := by
  refine And.intro (vp_in_nI (by omega) (by omega)) (nm_r (e' := nI o) (by rw [nI_clamp (by omega)]; exact hop) ⟨vp_in_nI (by omega) (by omega), nm_r (e' := fi i) (by rw [nI_clamp (by omega)]) ⟨vp_in_nI (by omega) (by omega), nm_r (e' := se i) (by rw [nI_clamp (by omega)]) (nm_r (wd_bs (f + 1)) (nm_e (nm_e (nm_r (nI_1 i) ?_))))⟩⟩)
  subst ho
  refine br_f (by decide) (br_f (by decide) (br_f (by decide) (br_f (by decide) (br_f (by decide) (br_f (by decide) (br_f (by decide) (br_f (by decide) (br_f (by decide) (br_t (by decide) (br_f ?_ (nm_r (nI_pred (f + 1)) ?_)))))))))))
  · intro k; have := (nI_eq (b := 1) (by omega) (by decide)).mp k; omega
  · have e : nI ((f + 1) * 4) - 4 = nI (f * 4) := by
      have := pk_sub (a := (f + 1) * 4) (b := 4) (by omega)
      rw [show (f + 1) * 4 - 4 = f * 4 by omega] at this
      exact this
    rw [nI_pred, nI_clamp (show f < 2 ^ 31 by omega), e, hyt, nI_add, nI_clamp (show f * 4 + t < 2 ^ 31 by omega), nI_clamp (show (f + 1) * 4 < 2 ^ 31 by omega)]
    exact ⟨vp_in_nI (by omega) (by omega), vp_in_nI (by omega) (by omega), vp_in_nI (by omega) (by omega), nm_e ⟨vp_in_nI (by omega) (by omega), nm_e h⟩⟩
theorem wd_ycO (hi : i < 20) (hop : op i = nI o) (hf : f < 6) (ha4 : a < 4) (hb4 : b < 4) (ha : fi i &&& 3 = nI a) (hb : se i &&& 3 = nI b) (ho : o = 10) (h : wY_carryOut_467 post (nI (i + 1)) (nI L) ys (nI (f + 1)) (nI i) (wr + 1) op fi se yk lo yg yt (upd (wd_sh 0 la) 0 (lo (f * 4 + a)))) : wpY_carryOut post ((nI L), ys, (nI (f + 1)), (nI i), wr, op, fi, se, yk, lo, yg, yt, la) := by
  refine And.intro (vp_in_nI (by omega) (by omega)) (nm_r (e' := nI o) (by rw [nI_clamp (by omega)]; exact hop) ⟨vp_in_nI (by omega) (by omega), nm_r (e' := fi i) (by rw [nI_clamp (by omega)]) ⟨vp_in_nI (by omega) (by omega), nm_r (e' := se i) (by rw [nI_clamp (by omega)]) (nm_r (wd_bs f) (nm_r (e' := nI (f * 4 + a)) (by rw [ha, nI_add]) (nm_r (e' := nI (f * 4 + b)) (by rw [hb, nI_add]) (nm_r (nI_1 i) ?_))))⟩⟩)
  subst ho
  refine br_f (by decide) (br_f (by decide) (br_f (by decide) (br_f (by decide) (br_f (by decide) (br_f (by decide) (br_f (by decide) (br_f (by decide) (br_f (by decide) (br_f (by decide) ⟨vp_in_nI (by omega) (by omega), ?_⟩)))))))))
  rw [nI_clamp (show f * 4 + a < 2 ^ 31 by omega)]
  exact wd_yo h
end
end
section
/-! one operation of both machines: its outcomes -/
section
variable {L F f i o a b d z x y t c : Nat} {br gd st pc ls lc wr ys co v g : Int32} {op fi se bk sk pl wo wf le en bo lo go ta ou yk yg yt la : Nat → Int32}
/-- the step as the reference's counter and frames see it -/
def wd_SR (F i o : Nat) (se yg : Nat → Int32) (F' c : Nat) (yg' : Nat → Int32) : Prop :=
  (F' = F ∧ yg' = yg ∧ o ≠ 8 ∧ o ≠ 9 ∧ (c = i + 1 ∨ (5 ≤ o ∧ o ≤ 7 ∧ se i = nI c))) ∨
  (o = 8 ∧ F' = F + 1 ∧ yg' = upd yg (F - 1) (nI (i + 1)) ∧ se i = nI c) ∨
  (o = 9 ∧ F' + 1 = F ∧ yg' = yg ∧ yg (F - 2) = nI c)
theorem wd_FGk (hs : wd_e bk pl (i + 1) = d + 1) (hi : i < L) (h : (wd_FG L (f + 1) bk pl go yg)) : (wd_FG L (f + 1 + 1) bk pl (upd go (f + 1) (nI (d + 1))) (upd yg f (nI (i + 1)))) := by
  intro j hj
  by_cases e : j = f
  · subst e
    exact ⟨i + 1, hi, pk_us, by rw [pk_us, hs]⟩
  · rw [pk_un e, pk_un (show j + 1 ≠ f + 1 by omega)]
    exact h j (by omega)
theorem wd_FTk (ha : a < 4) (h : (wd_FT (f + 1) ta yt)) : (wd_FT (f + 1 + 1) (upd ta (f + 1) (nI a)) (upd yt f (nI a))) := by
  intro j hj
  by_cases e : j = f
  · subst e
    exact ⟨a, ha, pk_us, pk_us⟩
  · rw [pk_un e, pk_un (show j + 1 ≠ f + 1 by omega)]
    exact h j (by omega)
theorem wd_step {C : Prop} (hPG : (wd_PG L op)) (hi : i < L) (ho : o ≤ 10) (hop : op i = nI o) (hf : f < 6) (hW : (wd_W L op se bk pl wo wf le en bo)) (hG : (wd_FG L (f + 1) bk pl go yg)) (hT : (wd_FT (f + 1) ta yt)) (hO : (wd_OU wr ou la))
    (hN : ∀ (F' c : Nat) (wr' : Int32) (lo' go' ta' ou' yg' yt' la' : Nat → Int32), 1 ≤ F' → F' ≤ 6 → c ≤ L → (wd_FG L F' bk pl go' yg') → (wd_FT F' ta' yt') → (wd_OU wr' ou' la') → wd_SR (f + 1) i o se yg F' c yg' →
      (∀ post : SX → Prop, post ((nI L), br, gd, st, (nI (wd_e bk pl c)), ls, lc, (nI F'), wr', op, fi, se, bk, sk, pl, wo, wf, le, en, bo, lo', go', ta', ou') → wpX_perform post ((nI L), br, gd, st, (nI (wd_d bk pl i)), ls, lc, (nI (f + 1)), wr, op, fi, se, bk, sk, pl, wo, wf, le, en, bo, lo, go, ta, ou)) →
      (∀ post : SY → Prop, post ((nI L), (if c < L then ys else 6), (nI F'), (nI c), wr', op, fi, se, yk, lo', yg', yt', la') → wpY_carryOut post ((nI L), ys, (nI (f + 1)), (nI i), wr, op, fi, se, yk, lo, yg, yt, la)) → C)
    (hE : ∀ (s : Int32) (F' : Nat) (ls' lc' co' : Int32) (lo' go' ta' yg' yt' : Nat → Int32), s = 5 ∨ s = 6 → 1 ≤ F' → F' ≤ 6 → (wd_FG L F' bk pl go' yg') → (wd_FT F' ta' yt') → (ls' = ls ∧ co' = nI i) ∨ (ls' = 1 ∧ lc' = co' ∧ s = 6) →
      (∀ post : SX → Prop, post ((nI L), br, gd, s, (nI (wd_d bk pl i)), ls', lc', (nI F'), wr, op, fi, se, bk, sk, pl, wo, wf, le, en, bo, lo', go', ta', ou) → wpX_perform post ((nI L), br, gd, st, (nI (wd_d bk pl i)), ls, lc, (nI (f + 1)), wr, op, fi, se, bk, sk, pl, wo, wf, le, en, bo, lo, go, ta, ou)) →
      (∀ post : SY → Prop, post ((nI L), s, (nI F'), co', wr, op, fi, se, yk, lo', yg', yt', la) → wpY_carryOut post ((nI L), ys, (nI (f + 1)), (nI i), wr, op, fi, se, yk, lo, yg, yt, la)) → C) : C := by
  have hL := hPG.1
  have hi2 : i < 20 := by omega
  have hd : wd_d bk pl i < 48 := by have := wd_d_le (bk := bk) (pl := pl) i; omega
  have hw : wf (wd_d bk pl i) = nI i := (hW.1 i hi).2.1
  have hs : wd_e bk pl (i + 1) = wd_d bk pl i + 1 := wd_e_s i
  have hl : wd_ld L bk pl (se i) (le (wd_d bk pl i)) := hW.2.1 i hi
  have hj : ∀ j : Nat, j < L → wd_e bk pl j < 48 := fun j hj => by have := wd_e_le (bk := bk) (pl := pl) j; omega
  obtain ⟨a, ha4, ha⟩ := pk_andE (fi i) (m := 3) 2 (by decide)
  obtain ⟨b, hb4, hb⟩ := pk_andE (se i) (m := 3) 2 (by decide)
  obtain ⟨z, hz4, hz⟩ := pk_andE (fi i >>> ((2 : Int32) &&& 31)) (m := 3) 2 (by decide)
  have ha4 : a < 4 := ha4
  have hb4 : b < 4 := hb4
  have hz4 : z < 4 := hz4
  have e : o ≤ 4 ∨ (5 ≤ o ∧ o ≤ 7) ∨ o = 8 ∨ o = 9 ∨ o = 10 := by omega
  rcases e with e | e | e | e | e
  · refine hN (f + 1) (i + 1) wr (wd_cp o (f * 4 + a) (f * 4 + b) (se i) lo) go ta ou yg yt la (by omega) (by omega) hi hG hT hO (Or.inl ⟨rfl, rfl, by omega, by omega, Or.inl rfl⟩) (fun post h => ?_) (fun post h => ?_)
    rotate_left
    · exact wd_ycC hi2 hop hf ha4 hb4 ha hb e (wd_y467 hL hi h)
    · rw [hs] at h
      exact wd_xpC hi2 hd hw hop hf ha4 hb4 ha hb e h
  · by_cases k : wd_go o (f * 4 + a) (f * 4 + z) lo
    · rcases wd_ix hL (se i) with q | ⟨j, hjL, q⟩
      · exact hE 6 (f + 1) 1 (se i) (se i) lo go ta yg yt (Or.inr rfl) (by omega) (by omega) hG hT (Or.inr ⟨rfl, rfl, rfl⟩)
          (fun post h => wd_xpJ hi2 hd hw hop hf ha4 hb4 ha hb hz4 hz e (Or.inl ⟨k, rfl⟩) (wd_x160 hi2 hd hj hl (fun j hj z => (wd_nw hL q hj z).elim) (fun _ => h)))
          (fun post h => wd_ycJ hi2 hop hf ha4 hb4 ha hb hz4 hz e (Or.inl ⟨k, rfl⟩) (wd_y467n q h))
      · refine hN (f + 1) j wr lo go ta ou yg yt la (by omega) (by omega) (by omega) hG hT hO (Or.inl ⟨rfl, rfl, by omega, by omega, Or.inr ⟨e.1, e.2, q⟩⟩) (fun post h => ?_) (fun post h => ?_)
        · refine wd_xpJ hi2 hd hw hop hf ha4 hb4 ha hb hz4 hz e (Or.inl ⟨k, rfl⟩) (wd_x160 hi2 hd hj hl (fun j' hj' z => ?_) (fun z => ?_))
          · have := (nI_eq (by omega) (by omega)).mp (q.symm.trans z)
            subst this
            exact h
          · rw [q] at z
            exact (wd_nw hL z hjL rfl).elim
        · exact wd_ycJ hi2 hop hf ha4 hb4 ha hb hz4 hz e (Or.inl ⟨k, rfl⟩) (by rw [q]; exact wd_y467 hL (by omega) h)
    · refine hN (f + 1) (i + 1) wr lo go ta ou yg yt la (by omega) (by omega) hi hG hT hO (Or.inl ⟨rfl, rfl, by omega, by omega, Or.inl rfl⟩) (fun post h => ?_) (fun post h => ?_)
      · rw [hs] at h
        exact wd_xpJ hi2 hd hw hop hf ha4 hb4 ha hb hz4 hz e (Or.inr ⟨k, rfl⟩) (wd_x160n h)
      · exact wd_ycJ hi2 hop hf ha4 hb4 ha hb hz4 hz e (Or.inr ⟨k, rfl⟩) (wd_y467 hL hi h)
  · by_cases k : f = 5
    · exact hE 6 (f + 1) ls lc (nI i) lo go ta yg yt (Or.inr rfl) (by omega) (by omega) hG hT (Or.inl ⟨rfl, rfl⟩)
        (fun post h => wd_xpK6 k hi2 hd hw hop hf ha4 hb4 ha hb e h)
        (fun post h => wd_ycK6 k hi2 hop hf ha4 hb4 ha hb e h)
    · have k : f < 5 := by omega
      rcases wd_ix hL (se i) with q | ⟨j, hjL, q⟩
      · exact hE 6 (f + 1 + 1) 1 (se i) (se i) (wd_cl f (lo (f * 4 + a)) lo) _ _ _ _ (Or.inr rfl) (by omega) (by omega) (wd_FGk hs hi hG) (wd_FTk ha4 hT) (Or.inr ⟨rfl, rfl, rfl⟩)
          (fun post h => wd_xpK k hi2 hd hw hop hf ha4 hb4 ha hb e hj hl (fun j hj z => (wd_nw hL q hj z).elim) (fun _ => h))
          (fun post h => wd_ycK k hi2 hop hf ha4 hb4 ha hb e (wd_y467n q h))
      · refine hN (f + 1 + 1) j wr (wd_cl f (lo (f * 4 + a)) lo) _ _ ou _ _ la (by omega) (by omega) (by omega) (wd_FGk hs hi hG) (wd_FTk ha4 hT) hO (Or.inr (Or.inl ⟨e, rfl, rfl, q⟩)) (fun post h => ?_) (fun post h => ?_)
        rotate_left
        · exact wd_ycK k hi2 hop hf ha4 hb4 ha hb e (by rw [q]; exact wd_y467 hL (by omega) h)
        · refine wd_xpK k hi2 hd hw hop hf ha4 hb4 ha hb e hj hl (fun j' hj' z => ?_) (fun z => ?_)
          · have := (nI_eq (by omega) (by omega)).mp (q.symm.trans z)
            subst this
            exact h
          · rw [q] at z
            exact (wd_nw hL z hjL rfl).elim
  · by_cases k : f = 0
    · exact hE 5 (f + 1) ls lc (nI i) lo go ta yg yt (Or.inl rfl) (by omega) (by omega) hG hT (Or.inl ⟨rfl, rfl⟩)
        (fun post h => wd_xpR1 hi2 hd hw hop hf ha4 hb4 ha hb k e h)
        (fun post h => wd_ycR1 hi2 hop hf ha4 hb4 ha hb k e h)
    · obtain ⟨f, rfl⟩ : ∃ n, f = n + 1 := ⟨f - 1, by omega⟩
      obtain ⟨g, g1, g2, g3⟩ := hG f (by omega)
      obtain ⟨t, t1, t2, t3⟩ := hT f (by omega)
      refine hN (f + 1) g wr (upd lo (f * 4 + t) (lo ((f + 1) * 4))) go ta ou yg yt la (by omega) (by omega) g1 (fun j hj => hG j (by omega)) (fun j hj => hT j (by omega)) hO (Or.inr (Or.inr ⟨e, rfl, rfl, g2⟩)) (fun post h => ?_) (fun post h => ?_)
      rotate_left
      · exact wd_ycR hi2 hop hf e t1 t3 (by rw [g2]; exact wd_y467 hL g1 h)
      · exact wd_xpR hi2 hd hw hop hf e t1 t2 (by rw [g3]; exact h)
  · refine hN (f + 1) (i + 1) (wr + 1) lo go ta _ yg yt _ (by omega) (by omega) hi hG hT (wd_OU_s (v := lo (f * 4 + a)) hO) (Or.inl ⟨rfl, rfl, by omega, by omega, Or.inl rfl⟩) (fun post h => ?_) (fun post h => ?_)
    · rw [hs] at h
      exact wd_xpO hi2 hd hw hop hf ha4 hb4 ha hb e h
    · exact wd_ycO hi2 hop hf ha4 hb4 ha hb e (wd_y467 hL hi h)
end
end
section
/-! arriving, and the two runs in lockstep -/
section
variable {L F f i o a b d z x y t c n M G : Nat} {br gd st pc ls lc wr ys co v g : Int32} {op fi se bk sk pl wo wf le en bo lo go ta ou yk yg yt la : Nat → Int32} {post : SX → Prop}
theorem wd_xaE (hL : L ≤ 20) (hW : (wd_W L op se bk pl wo wf le en bo)) (h : post ((nI L), br, gd, 6, (nI (wd_e bk pl L)), 1, (nI L), (nI F), wr, op, fi, se, bk, sk, pl, wo, wf, le, en, bo, lo, go, ta, ou)) : wpX_arrive post ((nI L), br, gd, st, (nI (wd_e bk pl L)), ls, lc, (nI F), wr, op, fi, se, bk, sk, pl, wo, wf, le, en, bo, lo, go, ta, ou) := by
  have e := wd_e_le (bk := bk) (pl := pl) L
  exact And.intro (vp_in_nI (by omega) (by omega)) (br_t (by rw [nI_clamp (by omega)]; exact hW.2.2.2.1) h)
theorem wd_op_ne {o : Nat} (ho : o ≤ 10) : ¬ nI o = 12 ∧ ¬ nI o = 11 := by
  constructor
  · intro k; have := (nI_eq (b := 12) (by omega) (by decide)).mp k; omega
  · intro k; have := (nI_eq (b := 11) (by omega) (by decide)).mp k; omega
/-- at a probe -/
theorem wd_xap (hPG : (wd_PG L op)) (hW : (wd_W L op se bk pl wo wf le en bo)) (hc : c < L) (hp : ¬ (bk c = 0 ∧ pl c = 0))
    (h : (pl c = 0 ∨ gd < nI F → wX_arrive_87 post (nI c) (nI L) br gd st (nI (wd_e bk pl c)) ls lc (nI F) wr op fi se bk sk pl wo wf le en bo lo go ta ou) ∧ (pl c ≠ 0 → ¬ gd < nI F → post ((nI L), br, gd, 2, (nI (wd_e bk pl c)), ls, lc, (nI F), wr, op, fi, se, bk, sk, pl, wo, wf, le, en, bo, lo, go, ta, ou))) : wpX_arrive post ((nI L), br, gd, st, (nI (wd_e bk pl c)), ls, lc, (nI F), wr, op, fi, se, bk, sk, pl, wo, wf, le, en, bo, lo, go, ta, ou) := by
  have e := wd_e_le (bk := bk) (pl := pl) c
  have hL := hPG.1
  have k := (hW.1 c hc).2.2.2.1 hp
  have w := (hW.1 c hc).2.2.1
  refine And.intro (vp_in_nI (by omega) (by omega)) ?_
  rw [nI_clamp (show wd_e bk pl c < 2 ^ 31 by omega), k]
  refine br_f (by decide) ⟨vp_in_nI (by omega) (by omega), br_t rfl ⟨vp_in_nI (by omega) (by omega), nm_r w ⟨vp_in_nI (by omega) (by omega), ?_⟩⟩⟩
  rw [nI_clamp (show c < 2 ^ 31 by omega)]
  exact br_c (fun q => h.1 (Or.inl q)) (fun q => br_c (fun r => h.1 (Or.inr r)) (fun r => h.2 q r))
/-- stepped -/
theorem wd_xa2 (hPG : (wd_PG L op)) (hW : (wd_W L op se bk pl wo wf le en bo)) (hc : c < L) (hp : pl c ≠ 0 ∧ ¬ gd < nI F) (h : post ((nI L), br, gd, 2, (nI (wd_e bk pl c)), ls, lc, (nI F), wr, op, fi, se, bk, sk, pl, wo, wf, le, en, bo, lo, go, ta, ou)) : wpX_arrive post ((nI L), br, gd, st, (nI (wd_e bk pl c)), ls, lc, (nI F), wr, op, fi, se, bk, sk, pl, wo, wf, le, en, bo, lo, go, ta, ou) :=
  wd_xap hPG hW hc (fun z => hp.1 z.2) ⟨fun z => (z.elim hp.1 hp.2).elim, fun _ _ => h⟩
/-- no breakpoint -/
theorem wd_xa0 (hPG : (wd_PG L op)) (hW : (wd_W L op se bk pl wo wf le en bo)) (hc : c < L) (hp : ¬ (pl c ≠ 0 ∧ ¬ gd < nI F)) (hb : bk c = 0) (h : post ((nI L), br, gd, st, (nI (wd_d bk pl c)), ls, lc, (nI F), wr, op, fi, se, bk, sk, pl, wo, wf, le, en, bo, lo, go, ta, ou)) : wpX_arrive post ((nI L), br, gd, st, (nI (wd_e bk pl c)), ls, lc, (nI F), wr, op, fi, se, bk, sk, pl, wo, wf, le, en, bo, lo, go, ta, ou) := by
  have e := wd_e_le (bk := bk) (pl := pl) c
  have hL := hPG.1
  by_cases q : bk c = 0 ∧ pl c = 0
  · obtain ⟨o, ho, hop⟩ := hPG.2 c hc
    have w := (hW.1 c hc).1
    rw [wd_d_n q] at h w
    refine And.intro (vp_in_nI (by omega) (by omega)) ?_
    rw [nI_clamp (show wd_e bk pl c < 2 ^ 31 by omega), w, hop]
    exact br_f (wd_op_ne ho).1 ⟨vp_in_nI (by omega) (by omega), br_f (wd_op_ne ho).2 h⟩
  · rw [wd_d_p q] at h
    refine wd_xap hPG hW hc q ⟨fun _ => ?_, fun y z => absurd ⟨y, z⟩ hp⟩
    have hb' : bk (nI c).toNatClampNeg = 0 := by rw [nI_clamp (by omega)]; exact hb
    exact And.intro (vp_in_nI (by omega) (by omega)) (br_t hb' (And.intro (vp_in_nI (by omega) (by omega)) (br_t hb' (nm_r (nI_1 _) h))))
/-- a breakpoint that stops -/
theorem wd_xa3 (hPG : (wd_PG L op)) (hW : (wd_W L op se bk pl wo wf le en bo)) (hc : c < L) (hp : ¬ (pl c ≠ 0 ∧ ¬ gd < nI F)) (hb : ¬ bk c = 0) (hs : sk c = 0) (h : post ((nI L), br, gd, 3, (nI (wd_e bk pl c)), ls, lc, (nI F), wr, op, fi, se, bk, sk, pl, wo, wf, le, en, bo, lo, go, ta, ou)) : wpX_arrive post ((nI L), br, gd, st, (nI (wd_e bk pl c)), ls, lc, (nI F), wr, op, fi, se, bk, sk, pl, wo, wf, le, en, bo, lo, go, ta, ou) := by
  have hL := hPG.1
  refine wd_xap hPG hW hc (fun z => hb z.1) ⟨fun _ => ?_, fun y z => absurd ⟨y, z⟩ hp⟩
  have hb' : ¬ bk (nI c).toNatClampNeg = 0 := by rw [nI_clamp (by omega)]; exact hb
  have hs' : sk (nI c).toNatClampNeg = 0 := by rw [nI_clamp (by omega)]; exact hs
  exact And.intro (vp_in_nI (by omega) (by omega)) (br_f hb' ⟨vp_in_nI (by omega) (by omega), br_t hs' h⟩)
/-- a breakpoint that is passed over -/
theorem wd_xaS (hPG : (wd_PG L op)) (hW : (wd_W L op se bk pl wo wf le en bo)) (hc : c < L) (hp : ¬ (pl c ≠ 0 ∧ ¬ gd < nI F)) (hb : ¬ bk c = 0) (hs : ¬ sk c = 0) (h : post ((nI L), br, gd, st, (nI (wd_d bk pl c)), ls, lc, (nI F), wr, op, fi, se, bk, (upd sk c (sk c - 1)), pl, wo, wf, le, en, bo, lo, go, ta, ou)) : wpX_arrive post ((nI L), br, gd, st, (nI (wd_e bk pl c)), ls, lc, (nI F), wr, op, fi, se, bk, sk, pl, wo, wf, le, en, bo, lo, go, ta, ou) := by
  have hL := hPG.1
  have q : ¬ (bk c = 0 ∧ pl c = 0) := fun z => hb z.1
  rw [wd_d_p q] at h
  refine wd_xap hPG hW hc q ⟨fun _ => ?_, fun y z => absurd ⟨y, z⟩ hp⟩
  have hb' : ¬ bk (nI c).toNatClampNeg = 0 := by rw [nI_clamp (by omega)]; exact hb
  have hs' : ¬ sk (nI c).toNatClampNeg = 0 := by rw [nI_clamp (by omega)]; exact hs
  exact And.intro (vp_in_nI (by omega) (by omega)) (br_f hb' ⟨vp_in_nI (by omega) (by omega), br_f hs' (And.intro (vp_in_nI (by omega) (by omega)) (br_f hb' ⟨vp_in_nI (by omega) (by omega), vp_in_nI (by omega) (by omega), nm_r (e' := upd sk c (sk c - 1)) (by rw [nI_clamp (by omega)]) (nm_r (nI_1 _) h)⟩))⟩)
end
end
section
/-! one turn of the two runs, then the runs -/
section
variable {L F f i o a b d z x y t c n M G : Nat} {br gd st pc ls lc wr ys co v g : Int32} {op fi se bk sk pl wo wf le en bo lo go ta ou yk yg yt la : Nat → Int32} {Q : Nat → Nat → (Nat → Int32) → Prop}
theorem wd_BKd {s : Nat} (hB : (wd_BK bk sk yk)) (hc : c < 20) (hs : s + 1 ≤ 100) (h1 : bk c = 1) (h2 : sk c = yk c) (h3 : yk c = nI (s + 1)) : (wd_BK bk (upd sk c (sk c - 1)) (upd yk c (yk c - 1))) ∧ wd_cn (upd yk c (yk c - 1)) 20 = wd_cn yk 20 := by
  have e : yk c - 1 = nI s := by rw [h3, nI_pred]
  constructor
  · intro p hp
    by_cases q : p = c
    · subst q
      rw [pk_us, pk_us, h2, e]
      exact Or.inr ⟨h1, rfl, s, by omega, rfl⟩
    · rw [pk_un q, pk_un q]
      exact hB p hp
  · have k := wd_cn_u (yk := yk) (p := c) (v := yk c - 1) 20 hc
    rw [e, h3, wd_b_n (by omega), wd_b_n (by omega)] at k
    rw [e]
    omega
theorem wd_iter {C : Prop} (hPG : (wd_PG L op)) (hW : (wd_W L op se bk pl wo wf le en bo)) (hn : n < M) (hM : M ≤ 300) (hG6 : G ≤ 6) (hQ : ∀ (F i o : Nat) (yg : Nat → Int32) (F' c : Nat) (yg' : Nat → Int32), op i = nI o → o ≤ 10 → i < L → 1 ≤ F → 1 ≤ F' → F' ≤ 6 → c < L → wd_SR F i o se yg F' c yg' → Q F i yg → ((pl c ≠ 0 ∧ ¬ gd < nI F') ↔ F' ≤ G) ∧ (¬ F' ≤ G → Q F' c yg')) (h5 : ¬ ys = 5) (h6 : ¬ ys = 6)
    (hi : i < L) (hf : f < 6) (hG : (wd_FG L (f + 1) bk pl go yg)) (hT : (wd_FT (f + 1) ta yt)) (hO : (wd_OU wr ou la)) (hB : (wd_BK bk sk yk)) (hq : Q (f + 1) i yg)
    (hS : ∀ (st' pc' ls' lc' : Int32) (F' : Nat) (wr' co' : Int32) (sk' lo' go' ta' ou' yk' yg' yt' la' : Nat → Int32), (wd_BK bk sk' yk') → wd_cn yk' 20 = wd_cn yk 20 → (wd_OU wr' ou' la') → ¬ st' = 0 → (wd_MC L F' st' pc' ls' lc' co' op se bk pl wo wf le en bo go' ta' yg' yt') →
      (∀ (post : Int32 → SX → Prop) (N : Nat), post (nI (n + 1)) ((nI L), br, gd, st', pc', ls', lc', (nI F'), wr', op, fi, se, bk, sk', pl, wo, wf, le, en, bo, lo', go', ta', ou') → wX_run_25 post (nI M) (N + 2) (nI n) (nI L) br gd 1 (nI (wd_d bk pl i)) 0 lc (nI (f + 1)) wr op fi se bk sk pl wo wf le en bo lo go ta ou) →
      (∀ (post : Int32 → SY → Prop) (N : Nat), post (nI (n + 1)) ((nI L), st', (nI F'), co', wr', op, fi, se, yk', lo', yg', yt', la') → wY_run_54 post (nI G) (nI M) (N + 1) (nI (n + 1)) (nI L) ys (nI (f + 1)) (nI i) wr op fi se yk lo yg yt la) → C)
    (hK : ∀ (c' f' : Nat) (wr' : Int32) (sk' lo' go' ta' ou' yk' yg' yt' la' : Nat → Int32), (wd_BK bk sk' yk') → wd_cn yk' 20 = wd_cn yk 20 → (wd_OU wr' ou' la') → c' < L → f' < 6 → (wd_FG L (f' + 1) bk pl go' yg') → (wd_FT (f' + 1) ta' yt') → Q (f' + 1) c' yg' →
      (∀ (post : Int32 → SX → Prop) (N : Nat), wX_run_57 post (wX_run_25 post (nI M) N) (nI M) (nI (n + 1)) (nI L) br gd 1 (nI (wd_d bk pl c')) 0 lc (nI (f' + 1)) wr' op fi se bk sk' pl wo wf le en bo lo' go' ta' ou' → wX_run_25 post (nI M) (N + 1) (nI n) (nI L) br gd 1 (nI (wd_d bk pl i)) 0 lc (nI (f + 1)) wr op fi se bk sk pl wo wf le en bo lo go ta ou) →
      (∀ (post : Int32 → SY → Prop) (N : Nat), wY_run_154 post (wY_run_54 post (nI G) (nI M) N) (nI G) (nI M) (nI (n + 1)) (nI L) ys (nI (f' + 1)) (nI c') wr' op fi se yk' lo' yg' yt' la' → wY_run_54 post (nI G) (nI M) (N + 1) (nI (n + 1)) (nI L) ys (nI (f + 1)) (nI i) wr op fi se yk lo yg yt la) → C) : C := by
  have hL := hPG.1
  have hd : wd_d bk pl i < 48 := by have := wd_d_le (bk := bk) (pl := pl) i; omega
  have hw : wf (wd_d bk pl i) = nI i := (hW.1 i hi).2.1
  have hnM : ¬ nI M ≤ nI n := nI_ge hn (by omega)
  have h300 : ¬ 300 < nI (n + 1) := nI_nlt (b := n + 1) (a := 300) (by omega) (by decide)
  obtain ⟨o, ho, hop⟩ := hPG.2 i hi
  refine wd_step (br := br) (gd := gd) (st := 1) (ls := 0) (lc := lc) (sk := sk) (fi := fi) (lo := lo) (ys := ys) (yk := yk) (en := en) (bo := bo) (wo := wo) hPG hi ho hop hf hW hG hT hO ?_ ?_
  · intro F' c wr' lo' go' ta' ou' yg' yt' la' f1 f6 hc hG' hT' hO' hSR hX hY
    have he : wd_e bk pl c < 48 := by have := wd_e_le (bk := bk) (pl := pl) c; omega
    have hwe : wf (wd_e bk pl c) = nI c := wd_W_wf hW hc
    by_cases k : c < L
    · rw [if_pos k] at hY
      obtain ⟨q1, q2⟩ := hQ (f + 1) i o yg F' c yg' hop ho hi (by omega) f1 f6 k hSR hq
      by_cases s : F' ≤ G
      · refine hS 2 (nI (wd_e bk pl c)) 0 lc F' wr' (nI c) sk lo' go' ta' ou' yk yg' yt' la' hB rfl hO' (by decide) ⟨f1, f6, hW, hG', hT', _, c, he, hc, rfl, hwe, Or.inl ⟨rfl, rfl, k⟩⟩ (fun post N h => ?_) (fun post N h => ?_)
        · exact br_t rfl (br_f hnM (hX _ (nm_r (nI_1 n) (br_t rfl (wd_xa2 hPG hW k (q1.mpr s) (br_f (by decide) (br_f (by decide) h)))))))
        · exact br_f h300 (hY _ (br_f h5 (br_f h6 (br_f (nI_nlt s (by omega)) h))))
      · have hp : ¬ (pl c ≠ 0 ∧ ¬ gd < nI F') := fun z => s (q1.mp z)
        have hgF : nI G < nI F' := nI_lt (by omega) (by omega)
        have vc : vp_in (nI c) 20 := vp_in_nI (by omega) (by omega)
        have cc : (nI c).toNatClampNeg = c := by rw [nI_clamp (by omega)]
        obtain ⟨f', rfl⟩ : ∃ f', F' = f' + 1 := ⟨F' - 1, by omega⟩
        rcases hB c (by omega) with ⟨b1, b2⟩ | ⟨b1, b2, s', b3, b4⟩
        · refine hK c f' wr' sk lo' go' ta' ou' yk yg' yt' la' hB rfl hO' k (by omega) hG' hT' (q2 s) (fun post N h => ?_) (fun post N h => ?_)
          · exact br_t rfl (br_f hnM (hX _ (nm_r (nI_1 n) (br_t rfl (wd_xa0 hPG hW k hp b1 h)))))
          · exact br_f h300 (hY _ (br_f h5 (br_f h6 (br_t hgF ⟨vc, br_f (by rw [cc, b2]; decide) ⟨vc, br_t (by rw [cc, b2]; decide) h⟩⟩))))
        · have b1' : ¬ bk c = 0 := by rw [b1]; decide
          cases s' with
          | zero =>
            refine hS 3 (nI (wd_e bk pl c)) 0 lc (f' + 1) wr' (nI c) sk lo' go' ta' ou' yk yg' yt' la' hB rfl hO' (by decide) ⟨f1, f6, hW, hG', hT', _, c, he, hc, rfl, hwe, Or.inl ⟨rfl, rfl, k⟩⟩ (fun post N h => ?_) (fun post N h => ?_)
            · exact br_t rfl (br_f hnM (hX _ (nm_r (nI_1 n) (br_t rfl (wd_xa3 hPG hW k hp b1' (b2.trans b4) (br_f (by decide) (br_f (by decide) h)))))))
            · exact br_f h300 (hY _ (br_f h5 (br_f h6 (br_t hgF ⟨vc, br_t (by rw [cc]; exact b4) h⟩))))
          | succ s' =>
            obtain ⟨d1, d2⟩ := wd_BKd hB (by omega) b3 b1 b2 b4
            have n0 : ¬ yk c = 0 := by rw [b4]; exact nI_ne0 (by omega) (by omega)
            have n1 : ¬ yk c ≤ 0 := by rw [b4]; exact nI_nle (by omega) (by omega)
            refine hK c f' wr' _ lo' go' ta' ou' _ yg' yt' la' d1 d2 hO' k (by omega) hG' hT' (q2 s) (fun post N h => ?_) (fun post N h => ?_)
            · exact br_t rfl (br_f hnM (hX _ (nm_r (nI_1 n) (br_t rfl (wd_xaS hPG hW k hp b1' (by rw [b2]; exact n0) h)))))
            · exact br_f h300 (hY _ (br_f h5 (br_f h6 (br_t hgF ⟨vc, br_f (by rw [cc]; exact n0) ⟨vc, br_f (by rw [cc]; exact n1) ⟨vc, vc, nm_r (by rw [cc]) h⟩⟩⟩))))
    · rw [if_neg k] at hY
      have e : c = L := by omega
      subst e
      refine hS 6 (nI (wd_e bk pl c)) 1 (nI c) F' wr' (nI c) sk lo' go' ta' ou' yk yg' yt' la' hB rfl hO' (by decide) ⟨f1, f6, hW, hG', hT', _, c, he, hc, rfl, hwe, Or.inr ⟨rfl, rfl, rfl⟩⟩ (fun post N h => ?_) (fun post N h => ?_)
      · exact br_t rfl (br_f hnM (hX _ (nm_r (nI_1 n) (br_t rfl (wd_xaE hL hW (br_f (by decide) (br_f (by decide) h)))))))
      · exact br_f h300 (hY _ (br_f (by decide) (br_t rfl h)))
  · intro s F' ls' lc' co' lo' go' ta' yg' yt' hs f1 f6 hG' hT' hc hX hY
    have s0 : ¬ s = 0 := by rcases hs with rfl | rfl <;> decide
    have s1 : ¬ s = 1 := by rcases hs with rfl | rfl <;> decide
    refine hS s (nI (wd_d bk pl i)) ls' lc' F' wr co' sk lo' go' ta' ou yk yg' yt' la hB rfl hO s0 ⟨f1, f6, hW, hG', hT', _, i, hd, by omega, rfl, hw, ?_⟩ (fun post N h => ?_) (fun post N h => ?_)
    · rcases hc with ⟨c1, c2⟩ | c1
      · exact Or.inl ⟨c1, c2, hi⟩
      · exact Or.inr c1
    · exact br_t rfl (br_f hnM (hX _ (nm_r (nI_1 n) (br_f s1 (br_f s1 (br_f s1 h))))))
    · refine br_f h300 (hY _ ?_)
      rcases hs with rfl | rfl
      · exact br_t rfl h
      · exact br_f (by decide) (br_t rfl h)
/-- the two runs -/
theorem wd_loop {C : Prop} (hPG : (wd_PG L op)) (hW : (wd_W L op se bk pl wo wf le en bo)) (hM : M ≤ 300) (hG6 : G ≤ 6) (hQ : ∀ (F i o : Nat) (yg : Nat → Int32) (F' c : Nat) (yg' : Nat → Int32), op i = nI o → o ≤ 10 → i < L → 1 ≤ F → 1 ≤ F' → F' ≤ 6 → c < L → wd_SR F i o se yg F' c yg' → Q F i yg → ((pl c ≠ 0 ∧ ¬ gd < nI F') ↔ F' ≤ G) ∧ (¬ F' ≤ G → Q F' c yg')) (h5 : ¬ ys = 5) (h6 : ¬ ys = 6) :
    ∀ (m n : Nat), n + 1 + m = M → ∀ (i f : Nat) (wr : Int32) (sk lo go ta ou yk yg yt la : Nat → Int32), i < L → f < 6 → (wd_FG L (f + 1) bk pl go yg) → (wd_FT (f + 1) ta yt) → (wd_OU wr ou la) → (wd_BK bk sk yk) → Q (f + 1) i yg →
    (∀ (r : Nat) (st' pc' ls' lc' : Int32) (F' : Nat) (wr' co' : Int32) (sk' lo' go' ta' ou' yk' yg' yt' la' : Nat → Int32), (wd_BK bk sk' yk') → wd_cn yk' 20 = wd_cn yk 20 → (wd_OU wr' ou' la') → ¬ st' = 0 → (wd_MC L F' st' pc' ls' lc' co' op se bk pl wo wf le en bo go' ta' yg' yt') →
      (∀ post : Int32 → SX → Prop, post (nI r) ((nI L), br, gd, st', pc', ls', lc', (nI F'), wr', op, fi, se, bk, sk', pl, wo, wf, le, en, bo, lo', go', ta', ou') → wX_run_25 post (nI M) (m + 2) (nI n) (nI L) br gd 1 (nI (wd_d bk pl i)) 0 lc (nI (f + 1)) wr op fi se bk sk pl wo wf le en bo lo go ta ou) →
      (∀ post : Int32 → SY → Prop, post (nI r) ((nI L), st', (nI F'), co', wr', op, fi, se, yk', lo', yg', yt', la') → wY_run_54 post (nI G) (nI M) (m + 1) (nI (n + 1)) (nI L) ys (nI (f + 1)) (nI i) wr op fi se yk lo yg yt la) → C) → C := by
  intro m
  induction m with
  | zero =>
    intro n hn i f wr sk lo go ta ou yk yg yt la hi hf hG hT hO hB hq hC
    refine wd_iter (br := br) (lc := lc) (fi := fi) (lo := lo) (n := n) hPG hW (by omega) hM hG6 hQ h5 h6 hi hf hG hT hO hB hq ?_ ?_
    · intro st' pc' ls' lc' F' wr' co' sk' lo' go' ta' ou' yk' yg' yt' la' a1 a2 a3 a4 a5 hX hY
      exact hC (n + 1) st' pc' ls' lc' F' wr' co' sk' lo' go' ta' ou' yk' yg' yt' la' a1 a2 a3 a4 a5 (fun post h => hX post 0 h) (fun post h => hY post 0 h)
    · intro c' f' wr' sk' lo' go' ta' ou' yk' yg' yt' la' a1 a2 a3 a4 a5 a6 a7 a8 hX hY
      have e : n + 1 = M := by omega
      have hd : wd_d bk pl c' < 48 := by have := wd_d_le (bk := bk) (pl := pl) c'; have := hPG.1; omega
      exact hC (n + 1) 4 (nI (wd_d bk pl c')) 0 lc (f' + 1) wr' (nI c') sk' lo' go' ta' ou' yk' yg' yt' la' a1 a2 a3 (by decide) ⟨by omega, by omega, hW, a6, a7, _, c', hd, by omega, rfl, (hW.1 c' a4).2.1, Or.inl ⟨rfl, rfl, a4⟩⟩
        (fun post h => hX post 1 (br_t rfl (br_t (by rw [e]) (br_f (by decide) h)))) (fun post h => hY post 0 (br_t (by rw [e]) h))
  | succ m ih =>
    intro n hn i f wr sk lo go ta ou yk yg yt la hi hf hG hT hO hB hq hC
    refine wd_iter (br := br) (lc := lc) (fi := fi) (lo := lo) (n := n) hPG hW (by omega) hM hG6 hQ h5 h6 hi hf hG hT hO hB hq ?_ ?_
    · intro st' pc' ls' lc' F' wr' co' sk' lo' go' ta' ou' yk' yg' yt' la' a1 a2 a3 a4 a5 hX hY
      exact hC (n + 1) st' pc' ls' lc' F' wr' co' sk' lo' go' ta' ou' yk' yg' yt' la' a1 a2 a3 a4 a5 (fun post h => hX post (m + 1) h) (fun post h => hY post (m + 1) h)
    · intro c' f' wr' sk' lo' go' ta' ou' yk' yg' yt' la' a1 a2 a3 a4 a5 a6 a7 a8 hX hY
      have ne : ¬ nI (n + 1) = nI M := fun z => by have := (nI_eq (by omega) (by omega)).mp z; omega
      refine ih (n + 1) (by omega) c' f' wr' sk' lo' go' ta' ou' yk' yg' yt' la' a4 a5 a6 a7 a3 a1 a8 ?_
      intro r st2 pc2 ls2 lc2 F2 wr2 co2 sk2 lo2 go2 ta2 ou2 yk2 yg2 yt2 la2 b1 b2 b3 b4 b5 hX2 hY2
      exact hC r st2 pc2 ls2 lc2 F2 wr2 co2 sk2 lo2 go2 ta2 ou2 yk2 yg2 yt2 la2 b1 (b2.trans a2) b3 b4 b5
        (fun post h => hX post (m + 2) (br_t rfl (br_f ne (hX2 post h)))) (fun post h => hY post (m + 1) (br_f ne (nm_r (nI_1 (n + 1)) (hY2 post h))))
end
end
section
/-! the runs as the methods call them -/
section
variable {L F f i o a b d z x y t c n M G q : Nat} {br gd st pc ls lc wr ys co v g p : Int32} {op fi se bk sk pl wo wf le en bo lo go ta ou yk yg yt la : Nat → Int32} {Q : Nat → Nat → (Nat → Int32) → Prop}
theorem wd_runs {C : Prop} (hPG : (wd_PG L op)) (hW : (wd_W L op se bk pl wo wf le en bo)) (hM1 : 1 ≤ M) (hM : M ≤ 300) (hG6 : G ≤ 6) (hQ : ∀ (F i o : Nat) (yg : Nat → Int32) (F' c : Nat) (yg' : Nat → Int32), op i = nI o → o ≤ 10 → i < L → 1 ≤ F → 1 ≤ F' → F' ≤ 6 → c < L → wd_SR F i o se yg F' c yg' → Q F i yg → ((pl c ≠ 0 ∧ ¬ gd < nI F') ↔ F' ≤ G) ∧ (¬ F' ≤ G → Q F' c yg')) (h5 : ¬ ys = 5) (h6 : ¬ ys = 6)
    (hi : i < L) (hq : q < 48) (hw : wf q = nI i) (hF1 : 1 ≤ F) (hF : F ≤ 6) (hG : (wd_FG L F bk pl go yg)) (hT : (wd_FT F ta yt)) (hO : (wd_OU wr ou la)) (hB : (wd_BK bk sk yk)) (hQ0 : Q F i yg)
    (hC : ∀ (r : Nat) (st' pc' ls' lc' : Int32) (F' : Nat) (wr' co' : Int32) (sk' lo' go' ta' ou' yk' yg' yt' la' : Nat → Int32), (wd_BK bk sk' yk') → wd_cn yk' 20 = wd_cn yk 20 → (wd_OU wr' ou' la') → ¬ st' = 0 → (wd_MC L F' st' pc' ls' lc' co' op se bk pl wo wf le en bo go' ta' yg' yt') →
      (∀ post : Int32 → SX → Prop, post (nI r) ((nI L), br, gd, st', pc', ls', lc', (nI F'), wr', op, fi, se, bk, sk', pl, wo, wf, le, en, bo, lo', go', ta', ou') → wpX_run post ((nI L), br, gd, st, (nI q), 0, lc, (nI F), wr, op, fi, se, bk, sk, pl, wo, wf, le, en, bo, lo, go, ta, ou) (nI M)) →
      (∀ post : Int32 → SY → Prop, post (nI r) ((nI L), st', (nI F'), co', wr', op, fi, se, yk', lo', yg', yt', la') → wY_run_54 post (nI G) (nI M) M 1 (nI L) ys (nI F) (nI i) wr op fi se yk lo yg yt la) → C) : C := by
  have hL := hPG.1
  obtain ⟨f, rfl⟩ : ∃ f, F = f + 1 := ⟨F - 1, by omega⟩
  obtain ⟨m, rfl⟩ : ∃ m, M = m + 1 := ⟨M - 1, by omega⟩
  refine wd_loop (br := br) (lc := lc) (fi := fi) hPG hW hM hG6 hQ h5 h6 m 0 (by omega) i f wr sk lo go ta ou yk yg yt la hi (by omega) hG hT hO hB hQ0 ?_
  intro r st' pc' ls' lc' F' wr' co' sk' lo' go' ta' ou' yk' yg' yt' la' a1 a2 a3 a4 a5 hX hY
  refine hC r st' pc' ls' lc' F' wr' co' sk' lo' go' ta' ou' yk' yg' yt' la' a1 a2 a3 a4 a5 (fun post h => ?_) (fun post h => hY post h)
  have e : (nI q).toNatClampNeg = q := by rw [nI_clamp (by omega)]
  have e2 : bo i = nI (wd_d bk pl i) := (hW.1 i hi).2.2.2.2.1
  exact And.intro (vp_in_nI (by omega) (by omega)) ⟨by rw [e, hw]; exact vp_in_nI (by omega) (by omega), nm_r (by rw [e, hw, nI_clamp (by omega)]; exact e2) ⟨m + 2, hX post h⟩⟩
theorem wd_xnr1 {post : Int32 → Prop} (hs : st = 0 ∨ st = 5 ∨ st = 6) (h : post 1) : wpX_notRunning post ((nI L), br, gd, st, pc, ls, lc, (nI F), wr, op, fi, se, bk, sk, pl, wo, wf, le, en, bo, lo, go, ta, ou) :=
  br_c (fun _ => h) (fun h0 => br_c (fun _ => h) (fun h5 => br_t ((hs.resolve_left h0).resolve_left h5) h))
theorem wd_xnr0 {post : Int32 → Prop} (h0 : ¬ st = 0) (h5 : ¬ st = 5) (h6 : ¬ st = 6) (h : post 0) : wpX_notRunning post ((nI L), br, gd, st, pc, ls, lc, (nI F), wr, op, fi, se, bk, sk, pl, wo, wf, le, en, bo, lo, go, ta, ou) :=
  br_f h0 (br_f h5 (br_f h6 h))
theorem wd_yr1 {post : Int32 → SY → Prop} (hs : ys = 0 ∨ ys = 5 ∨ ys = 6) (h : post (-4) ((nI L), ys, (nI F), co, wr, op, fi, se, yk, lo, yg, yt, la)) : wpY_run post ((nI L), ys, (nI F), co, wr, op, fi, se, yk, lo, yg, yt, la) p g :=
  br_c (fun _ => h) (fun h0 => br_c (fun _ => h) (fun h5 => br_t ((hs.resolve_left h0).resolve_left h5) h))
theorem wd_yr0 {post : Int32 → SY → Prop} (h0 : ¬ ys = 0) (h5 : ¬ ys = 5) (h6 : ¬ ys = 6) (hM1 : 1 ≤ M) (hM : M ≤ 300) (h : wY_run_54 post g (nI M) M 1 (nI L) ys (nI F) co wr op fi se yk lo yg yt la) : wpY_run post ((nI L), ys, (nI F), co, wr, op, fi, se, yk, lo, yg, yt, la) (nI M) g :=
  br_f h0 (br_f h5 (br_f h6 (br_t (nI_le (a := 1) hM1 (by omega)) (br_t (nI_le (b := 300) hM (by decide)) ⟨M, h⟩))))
/-- the clamped count -/
theorem wd_cm (p : Int32) : ∃ M : Nat, 1 ≤ M ∧ M ≤ 300 ∧ (∀ post : Int32 → Prop, post (nI M) → wpX_clampMax post p) ∧
    (∀ (post : Int32 → SY → Prop) (g : Int32) (L F : Nat) (ys co wr : Int32) (op fi se yk lo yg yt la : Nat → Int32), ¬ ys = 0 → ¬ ys = 5 → ¬ ys = 6 → wY_run_54 post g (nI M) M 1 (nI L) ys (nI F) co wr op fi se yk lo yg yt la → wpY_run post ((nI L), ys, (nI F), co, wr, op, fi, se, yk, lo, yg, yt, la) p g) := by
  by_cases h1 : 1 ≤ p
  · by_cases h3 : p ≤ 300
    · have k : ¬ p < 0 := Int32.not_lt.mpr (Int32.le_trans (by decide) h1)
      obtain ⟨M, hM, rfl⟩ := nI_of2 (n := 300) (by decide) k h3
      have h1' : 1 ≤ M := (nI_leI (a := 1) (by decide) (by omega)).mp h1
      exact ⟨M, h1', hM, fun post h => br_t h1 (br_t h3 h), fun post g L F ys co wr op fi se yk lo yg yt la h0 h5 h6 h => wd_yr0 h0 h5 h6 h1' hM h⟩
    · exact ⟨300, by omega, by omega, fun post h => br_t h1 (br_f h3 h), fun post g L F ys co wr op fi se yk lo yg yt la h0 h5 h6 h => br_f h0 (br_f h5 (br_f h6 (br_t h1 (br_f h3 ⟨300, h⟩))))⟩
  · exact ⟨1, by omega, by omega, fun post h => br_f h1 h, fun post g L F ys co wr op fi se yk lo yg yt la h0 h5 h6 h => br_f h0 (br_f h5 (br_f h6 (br_f h1 ⟨1, h⟩)))⟩
/-- with probes planted: woven anew, run, unplanted, woven anew -/
theorem wd_rp {k : Nat} {P : Int32 → SX → Prop} {T : (Int32 → SY → Prop) → Prop}
    (hP : ∀ (r x1 x2 x3 x4 x5 x6 x7 x8 x9 : Int32) (y1 y2 y3 y4 y5 y6 y7 y8 y9 y10 y11 y12 y13 y14 y15 : Nat → Int32), T (fun r' v' => r' = r ∧ i_Rel k (x1, x2, x3, x4, x5, x6, x7, x8, x9, y1, y2, y3, y4, y5, y6, y7, y8, y9, y10, y11, y12, y13, y14, y15) v') → P r (x1, x2, x3, x4, x5, x6, x7, x8, x9, y1, y2, y3, y4, y5, y6, y7, y8, y9, y10, y11, y12, y13, y14, y15)) (hPG : (wd_PG L op)) (hM1 : 1 ≤ M) (hM : M ≤ 300) (hG6 : G ≤ 6) (hQ : ∀ (F i o : Nat) (yg : Nat → Int32) (F' c : Nat) (yg' : Nat → Int32), op i = nI o → o ≤ 10 → i < L → 1 ≤ F → 1 ≤ F' → F' ≤ 6 → c < L → wd_SR F i o se yg F' c yg' → Q F i yg → ((pl c ≠ 0 ∧ ¬ gd < nI F') ↔ F' ≤ G) ∧ (¬ F' ≤ G → Q F' c yg')) (h0 : ¬ st = 0) (h5 : ¬ st = 5) (h6 : ¬ st = 6)
    (hi : i < L) (hq : q < 48) (hw : wf q = nI i) (hF1 : 1 ≤ F) (hF : F ≤ 6) (hFW : (wd_FW L F wf go yg)) (hT : (wd_FT F ta yt)) (hO : (wd_OU wr ou la)) (hB : (wd_BK bk sk yk)) (hbr : br = nI (wd_cn yk 20)) (hQ0 : Q F i yg)
    (hY : ∀ post : Int32 → SY → Prop, wY_run_54 post (nI G) (nI M) M 1 (nI L) st (nI F) (nI i) wr op fi se yk lo yg yt la → T post) :
    wpX_runPlanted P ((nI L), br, gd, st, (nI q), 0, lc, (nI F), wr, op, fi, se, bk, sk, pl, wo, wf, le, en, bo, lo, go, ta, ou) (nI M) := by
  have hL := hPG.1
  unfold wpX_runPlanted
  dsimp only
  refine wd_xrw hL hF hF1 h0 hq hw (by omega) hFW ?_
  intro wo wf le en bo go hW hG
  have he : wd_e bk pl i < 48 := by have := wd_e_le (bk := bk) (pl := pl) i; omega
  refine wd_runs (br := br) (st := st) (lc := lc) (fi := fi) (sk := sk) (lo := lo) (ys := st) hPG hW hM1 hM hG6 hQ h5 h6 hi he (wd_W_wf hW (by omega)) hF1 hF hG hT hO hB hQ0 ?_
  intro r st' pc' ls' lc' F' wr' co' sk' lo' go' ta' ou' yk' yg' yt' la' a1 a2 a3 a4 a5 hX2 hY2
  refine hX2 _ ?_
  dsimp only
  refine wd_xun (fun pl2 hz2 => ?_)
  dsimp only
  obtain ⟨f1, f6, hW', hG', hT', q', i', b1, b2, rfl, b4, b5⟩ := a5
  refine wd_xrw hL f6 f1 a4 b1 b4 b2 (wd_FW_of hL hW' hG') ?_
  intro wo2 wf2 le2 en2 bo2 go2 hW2 hG2
  have he2 : wd_e bk pl2 i' < 48 := by have := wd_e_le (bk := bk) (pl := pl2) i'; omega
  refine hP _ _ _ _ _ _ _ _ _ _ _ _ _ _ _ _ _ _ _ _ _ _ _ _ _ ?_
  exact hY _ (hY2 _ ⟨rfl, wd_in hz2 ⟨hPG, a1, by rw [hbr, a2], a3, Or.inr ⟨a4, f1, f6, hW2, hG2, hT', _, i', he2, b2, rfl, wd_W_wf hW2 b2, b5⟩⟩⟩)
/-- beyond the goal's frames, the return place into them being planted -/
def wd_Q2 (L G : Nat) (pl : Nat → Int32) (F : Nat) (yg : Nat → Int32) : Prop := G < F ∧ (1 ≤ G → ∀ g : Nat, g < L → yg (G - 1) = nI g → pl g ≠ 0)
theorem wd_Q2s {F' : Nat} {yg' : Nat → Int32} (hF' : F' ≤ 6) (hF1 : 1 ≤ F') (hc : c < L) (hS : wd_SR F i o se yg F' c yg') (h : wd_Q2 L G pl F yg) : ((pl c ≠ 0 ∧ ¬ nI G < nI F') ↔ F' ≤ G) ∧ (¬ F' ≤ G → wd_Q2 L G pl F' yg') := by
  obtain ⟨h1, h2⟩ := h
  have A : G < F' → (∀ g : Nat, yg' g = yg g ∨ F - 1 ≤ g) → ((pl c ≠ 0 ∧ ¬ nI G < nI F') ↔ F' ≤ G) ∧ (¬ F' ≤ G → wd_Q2 L G pl F' yg') := by
    intro k e
    refine ⟨⟨fun z => absurd (nI_lt k (by omega)) z.2, fun z => absurd k (by omega)⟩, fun _ => ⟨k, fun g1 g hg z => h2 g1 g hg ?_⟩⟩
    rcases e (G - 1) with e | e
    · exact e.symm.trans z
    · omega
  rcases hS with ⟨s1, s2, s3⟩ | ⟨s1, s2, s3, s4⟩ | ⟨s1, s2, s3, s4⟩
  · exact A (by omega) (fun g => Or.inl (by rw [s2]))
  · refine A (by omega) (fun g => ?_)
    by_cases e : g = F - 1
    · exact Or.inr (by omega)
    · exact Or.inl (by rw [s3]; exact pk_un e)
  · by_cases k : G < F'
    · exact A k (fun g => Or.inl (by rw [s3]))
    · have e : F - 2 = G - 1 := by omega
      rw [e] at s4
      exact ⟨⟨fun _ => by omega, fun _ => ⟨h2 (by omega) c hc s4, nI_nlt (by omega) (by omega)⟩⟩, fun z => absurd (by omega) z⟩
theorem wd_PNs {F' : Nat} {w : Int32} {yg' : Nat → Int32} (hF1 : 1 ≤ F') (hc : c < L) (hS : wd_SR F i o se yg F' c yg') (h : wd_PN L F i o w se yg pl) (hw : w ≠ 0 ∨ F' ≤ F) : pl c ≠ 0 := by
  rcases hS with ⟨s1, s2, s3, s4, s5⟩ | ⟨s1, s2, s3, s4⟩ | ⟨s1, s2, s3, s4⟩
  · rcases s5 with s5 | ⟨s5, s6, s7⟩
    · subst s5
      exact h.2.1 s4 hc
    · exact h.2.2 (Or.inl ⟨s5, s6⟩) c hc s7
  · rcases hw with hw | hw
    · exact h.2.2 (Or.inr ⟨s1, hw⟩) c hc s4
    · omega
  · exact h.1 s1 (by omega) c hc s4
end
end
section
/-! the constructors, the program, the breakpoints, the questions -/
section
variable {L F f i o a b d z x y t c n M G q j : Nat} {br gd st pc ls lc wr ys co v g p : Int32} {op fi se bk sk pl wo wf le en bo lo go ta ou yk yg yt la bk' : Nat → Int32}
theorem wd_cn_0 : ∀ n : Nat, (∀ j : Nat, j < n → yk j = -1) → wd_cn yk n = 0
  | 0, _ => rfl
  | n + 1, h => by
    show wd_cn yk n + wd_b (yk n) = 0
    rw [wd_cn_0 n (fun j hj => h j (by omega)), h n (by omega), wd_b_m]
theorem wd_yi {post : SY → Prop} (h : ∀ yk : Nat → Int32, (∀ j : Nat, j < 20 → yk j = -1) → post ((nI L), ys, (nI F), co, wr, op, fi, se, yk, lo, yg, yt, la)) :
    ∀ (m i : Nat), i + m = 20 → ∀ yk : Nat → Int32, (∀ j : Nat, j < i → yk j = -1) → wY_init_70 post (nI L) ys (nI F) co wr (m + 1) (nI i) op fi se yk lo yg yt la := by
  intro m
  induction m with
  | zero =>
    intro i hi yk hp
    have e : i = 20 := by omega
    subst e
    exact br_t (Int32.le_refl _) (h yk hp)
  | succ m ih =>
    intro i hi yk hp
    rw [wY_init_70]
    dsimp only
    rw [nI_clamp (show i < 2 ^ 31 by omega)]
    refine br_f (nI_ge (b := 20) (by omega) (by decide)) ⟨vp_in_nI (by omega) (by omega), nm_e (nm_r (nI_1 i) (ih (i + 1) (by omega) _ ?_))⟩
    intro j hj
    by_cases e : j = i
    · subst e; exact pk_us
    · rw [pk_un e]; exact hp j (by omega)
theorem i_vc0 : wpX_init (fun u => wpY_init (fun v => i_Rel 0 u v)) := by
  refine Exists.intro 21 (wd_yi (L := 0) (F := 0) ?_ 20 0 rfl _ (fun j hj => absurd hj (Nat.not_lt_zero j)))
  intro yk h
  refine wd_in (L := 0) (F := 0) (fun p _ => rfl) ⟨⟨by omega, fun i hi => absurd hi (Nat.not_lt_zero i)⟩, fun p hp => Or.inl ⟨rfl, h p hp⟩, ?_, wd_OU_0, Or.inl ⟨rfl, rfl⟩⟩
  rw [wd_cn_0 20 h]
  rfl
theorem wd_ybr {post : Int32 → Prop} (h : post (nI (wd_cn yk 20))) : wpY_breaks post ((nI L), ys, (nI F), co, wr, op, fi, se, yk, lo, yg, yt, la) := by
  have H : ∀ (m i : Nat), i + m = 20 → wY_breaks_4 post (nI L) ys (nI F) co wr op fi se yk lo yg yt la (m + 1) (nI (wd_cn yk i)) (nI i) := by
    intro m
    induction m with
    | zero =>
      intro i hi
      have e : i = 20 := by omega
      subst e
      exact br_t (Int32.le_refl _) h
    | succ m ih =>
      intro i hi
      have k := ih (i + 1) (by omega)
      rw [wY_breaks_4]
      dsimp only
      rw [nI_clamp (show i < 2 ^ 31 by omega)]
      refine br_f (nI_ge (b := 20) (by omega) (by decide)) ⟨vp_in_nI (by omega) (by omega), br_c (fun z => nm_r (nI_1 i) ?_) (fun z => nm_r (nI_1 _) (nm_r (nI_1 i) ?_))⟩
      · rw [show wd_cn yk (i + 1) = wd_cn yk i from by show wd_cn yk i + wd_b (yk i) = _; rw [show wd_b (yk i) = 0 from if_pos z]; rfl] at k
        exact k
      · rw [show wd_cn yk (i + 1) = wd_cn yk i + 1 from by show wd_cn yk i + wd_b (yk i) = _; rw [show wd_b (yk i) = 1 from if_neg z]] at k
        exact k
  exact Exists.intro 21 (H 20 0 rfl)
/-- moved along after a change of breakpoints -/
theorem wd_rwB {P : SX → Prop} (hPG : (wd_PG L op)) (hM : (st = 0 ∧ F = 0) ∨ (¬ st = 0 ∧ (wd_MC L F st pc ls lc co op se bk pl wo wf le en bo go ta yg yt))) (h : ∀ (pc : Int32) (wo wf le en bo go : Nat → Int32), (st = 0 ∧ F = 0) ∨ (¬ st = 0 ∧ (wd_MC L F st pc ls lc co op se bk' pl wo wf le en bo go ta yg yt)) → P ((nI L), br, gd, st, pc, ls, lc, (nI F), wr, op, fi, se, bk', sk, pl, wo, wf, le, en, bo, lo, go, ta, ou)) : wpX_reweave P ((nI L), br, gd, st, pc, ls, lc, (nI F), wr, op, fi, se, bk', sk, pl, wo, wf, le, en, bo, lo, go, ta, ou) := by
  have hL := hPG.1
  rcases hM with hM | ⟨h0, f1, f6, hW, hG, hT, q, i, b1, b2, rfl, b4, b5⟩
  · exact br_t hM.1 (h pc wo wf le en bo go (Or.inl hM))
  · refine wd_xrw hL f6 f1 h0 b1 b4 b2 (wd_FW_of hL hW hG) ?_
    intro wo2 wf2 le2 en2 bo2 go2 hW2 hG2
    have he2 : wd_e bk' pl i < 48 := by have := wd_e_le (bk := bk') (pl := pl) i; omega
    exact h _ _ _ _ _ _ _ (Or.inr ⟨h0, f1, f6, hW2, hG2, hT, _, i, he2, b2, rfl, wd_W_wf hW2 b2, b5⟩)
theorem i_vc_emit {k : Nat} {u : SX} {v : SY} (I : i_Rel k u v) (hk : k + 4 ≤ 2048) (v1 : Int32) (v2 : Int32) (v3 : Int32) : wpX_emit (fun r u' => wpY_emit (fun r' v' => r' = r ∧ i_Rel (k + 4) u' v') v v1 v2 v3) u v1 v2 v3 := by
  refine wd_el (P := fun u v => wpX_emit (fun r u' => wpY_emit (fun r' v' => r' = r ∧ i_Rel (k + 4) u' v') v v1 v2 v3) u v1 v2 v3) I ?_
  intro L F br gd st pc ls lc wr co op fi se bk sk pl wo wf le en bo lo go ta ou yk yg yt la hz hR
  obtain ⟨hPG, hB, hbr, hO, hM⟩ := id hR
  have hL := hPG.1
  by_cases c1 : v1 < 0
  · exact br_t c1 (br_t c1 ⟨rfl, wd_in hz hR⟩)
  · by_cases c2 : v1 ≤ 10
    · refine br_f c1 (br_t c2 ?_)
      by_cases c3 : L < 20
      · have n20 : ¬ nI L = 20 := fun z => by have := (nI_eq (b := 20) (by omega) (by decide)).mp z; omega
        refine br_t (nI_lt (b := 20) c3 (by decide)) ?_
        by_cases c4 : st = 0
        · have vl : vp_in (nI L) 20 := vp_in_nI (by omega) (by omega)
          have cl : (nI L).toNatClampNeg = L := by rw [nI_clamp (by omega)]
          have F0 : F = 0 := by
            rcases hM with hM | hM
            · exact hM.2
            · exact absurd c4 hM.1
          refine br_t c4 ⟨vl, nm_r (e' := upd op L v1) (by rw [cl]) ⟨vl, nm_r (e' := upd fi L v2) (by rw [cl]) ⟨vl, nm_r (e' := upd se L v3) (by rw [cl]) (nm_r (nI_1 L) ?_)⟩⟩⟩
          refine br_f c1 (br_t c2 (br_f n20 (br_t c4 ⟨vl, nm_r (e' := upd op L v1) (by rw [cl]) ⟨vl, nm_r (e' := upd fi L v2) (by rw [cl]) ⟨vl, nm_r (e' := upd se L v3) (by rw [cl]) (nm_r (nI_1 L) ⟨nI_pred L, wd_in hz ⟨⟨by omega, ?_⟩, hB, hbr, hO, Or.inl ⟨c4, F0⟩⟩⟩)⟩⟩⟩)))
          intro i hi
          by_cases e : i = L
          · subst e
            rw [pk_us]
            exact nI_of2 (n := 10) (by decide) c1 c2
          · rw [pk_un e]
            exact hPG.2 i (by omega)
        · exact br_f c4 (br_f c1 (br_t c2 (br_f n20 (br_f c4 ⟨rfl, wd_in hz hR⟩))))
      · have e : L = 20 := by omega
        subst e
        exact br_f (nI_nlt (Nat.le_refl 20) (by decide)) (br_f c1 (br_t c2 (br_t rfl ⟨rfl, wd_in hz hR⟩)))
    · exact br_f c1 (br_f c2 (br_f c1 (br_f c2 ⟨rfl, wd_in hz hR⟩)))
def wd_z4 (m : Nat) (lo : Nat → Int32) : Nat → Int32 := fun j => if j < m then 0 else lo j
theorem wd_z4s (m : Nat) : upd (wd_z4 m lo) m 0 = wd_z4 (m + 1) lo := by
  funext j
  show (if j = m then 0 else if j < m then 0 else lo j) = (if j < m + 1 then 0 else lo j)
  by_cases e : j = m
  · rw [if_pos e, if_pos (by omega)]
  · rw [if_neg e]
    by_cases h : j < m
    · rw [if_pos h, if_pos (by omega)]
    · rw [if_neg h, if_neg (by omega)]
theorem wd_z40 : wd_z4 0 lo = lo := by
  funext j
  exact if_neg (Nat.not_lt_zero j)
theorem wd_x22 {post : Int32 → SX → Prop} (hj : j < 21) (he : en j = v) (h : post 0 ((nI L), br, gd, 1, v, 0, lc, (nI F), 0, op, fi, se, bk, sk, pl, wo, wf, le, en, bo, (wd_z4 4 lo), go, ta, ou)) :
    ∀ (m i : Nat), i + m = 4 → wX_start_22 post (nI j) (nI L) br gd st pc ls lc (nI F) wr (m + 1) (nI i) op fi se bk sk pl wo wf le en bo (wd_z4 i lo) go ta ou := by
  intro m
  induction m with
  | zero =>
    intro i hi
    have e : i = 4 := by omega
    subst e
    exact br_t (Int32.le_refl _) ⟨vp_in_nI (by omega) (by omega), nm_r (by rw [nI_clamp (by omega)]; exact he) h⟩
  | succ m ih =>
    intro i hi
    rw [wX_start_22]
    dsimp only
    rw [nI_clamp (show i < 2 ^ 31 by omega)]
    exact br_f (nI_ge (b := 4) (by omega) (by decide)) ⟨vp_in_nI (by omega) (by omega), nm_r (wd_z4s i) (nm_r (nI_1 i) (ih (i + 1) (by omega)))⟩
theorem wd_y18 {post : Int32 → SY → Prop} (h : post 0 ((nI L), 1, (nI F), p, 0, op, fi, se, yk, (wd_z4 4 lo), yg, yt, la)) :
    ∀ (m i : Nat), i + m = 4 → wY_start_18 post p (nI L) ys (nI F) co wr (m + 1) (nI i) op fi se yk (wd_z4 i lo) yg yt la := by
  intro m
  induction m with
  | zero =>
    intro i hi
    have e : i = 4 := by omega
    subst e
    exact br_t (Int32.le_refl _) h
  | succ m ih =>
    intro i hi
    rw [wY_start_18]
    dsimp only
    rw [nI_clamp (show i < 2 ^ 31 by omega)]
    exact br_f (nI_ge (b := 4) (by omega) (by decide)) ⟨vp_in_nI (by omega) (by omega), nm_r (wd_z4s i) (nm_r (nI_1 i) (ih (i + 1) (by omega)))⟩
theorem wd_x22s {post : Int32 → SX → Prop} (hj : j < 21) (he : en j = v) (h : post 0 ((nI L), br, gd, 1, v, 0, lc, (nI F), 0, op, fi, se, bk, sk, pl, wo, wf, le, en, bo, (wd_z4 4 lo), go, ta, ou)) : wX_start_22 post (nI j) (nI L) br gd st pc ls lc (nI F) wr 5 0 op fi se bk sk pl wo wf le en bo lo go ta ou := by
  have k := wd_x22 (st := st) (pc := pc) (ls := ls) (wr := wr) hj he h 4 0 rfl
  rw [wd_z40] at k
  exact k
theorem wd_y18s {post : Int32 → SY → Prop} (h : post 0 ((nI L), 1, (nI F), p, 0, op, fi, se, yk, (wd_z4 4 lo), yg, yt, la)) : wY_start_18 post p (nI L) ys (nI F) co wr 5 0 op fi se yk lo yg yt la := by
  have k := wd_y18 (ys := ys) (co := co) (wr := wr) h 4 0 rfl
  rw [wd_z40] at k
  exact k
theorem i_vc_start {k : Nat} {u : SX} {v : SY} (I : i_Rel k u v) (hk : k + 4 ≤ 2048) (v1 : Int32) : wpX_start (fun r u' => wpY_start (fun r' v' => r' = r ∧ i_Rel (k + 4) u' v') v v1) u v1 := by
  refine wd_el (P := fun u v => wpX_start (fun r u' => wpY_start (fun r' v' => r' = r ∧ i_Rel (k + 4) u' v') v v1) u v1) I ?_
  intro L F br gd st pc ls lc wr co op fi se bk sk pl wo wf le en bo lo go ta ou yk yg yt la hz hR
  obtain ⟨hPG, hB, hbr, hO, hM⟩ := id hR
  have hL := hPG.1
  unfold wpX_start wpY_start
  dsimp only
  rcases wd_ix hL v1 with c | ⟨j, hj, rfl⟩
  · exact wd_xno1 c (br_f (by decide) (wd_yno1 c (br_f (by decide) ⟨rfl, wd_in hz hR⟩)))
  · refine wd_xno0 hL hj (br_t rfl (wd_xwv hL ?_))
    intro wo wf le en bo hW
    have he : wd_e bk pl j < 48 := by have := wd_e_le (bk := bk) (pl := pl) j; omega
    refine Exists.intro 5 (wd_x22s (F := 1) (by omega) (wd_W_en hW (by omega)) ?_)
    refine wd_yno0 hL hj (br_t rfl (Exists.intro 5 (wd_y18s (F := 1) ⟨rfl, wd_in hz ⟨hPG, hB, hbr, wd_OU_0, Or.inr ⟨by decide, ?_⟩⟩⟩)))
    exact ⟨by omega, by omega, hW, fun f hf => absurd hf (by omega), fun f hf => absurd hf (by omega), _, j, he, by omega, rfl, wd_W_wf hW (by omega), Or.inl ⟨rfl, rfl, hj⟩⟩
theorem wd_x42 {post : Int32 → SX → Prop} (hPG : (wd_PG L op)) (hj : j < 20) (hM : (st = 0 ∧ F = 0) ∨ (¬ st = 0 ∧ (wd_MC L F st pc ls lc co op se bk pl wo wf le en bo go ta yg yt))) (h : ∀ (pc : Int32) (wo wf le en bo go : Nat → Int32), (st = 0 ∧ F = 0) ∨ (¬ st = 0 ∧ (wd_MC L F st pc ls lc co op se (upd bk j 1) pl wo wf le en bo go ta yg yt)) → post br ((nI L), br, gd, st, pc, ls, lc, (nI F), wr, op, fi, se, (upd bk j 1), (upd sk j v), pl, wo, wf, le, en, bo, lo, go, ta, ou)) : wX_setBreak_42 post (nI j) v (nI L) br gd st pc ls lc (nI F) wr op fi se bk sk pl wo wf le en bo lo go ta ou := by
  have vj : vp_in (nI j) 20 := vp_in_nI (by omega) (by omega)
  have cj : (nI j).toNatClampNeg = j := by rw [nI_clamp (by omega)]
  refine And.intro vj (nm_r (e' := upd bk j 1) (by rw [cj, wd_n1]) ⟨vj, nm_r (e' := upd sk j v) (by rw [cj]) (wd_rwB hPG hM ?_)⟩)
  intro pc wo wf le en bo go hM'
  exact h pc wo wf le en bo go hM'
theorem i_vc_setBreak {k : Nat} {u : SX} {v : SY} (I : i_Rel k u v) (hk : k + 4 ≤ 2048) (v1 : Int32) (v2 : Int32) : wpX_setBreak (fun r u' => wpY_setBreak (fun r' v' => r' = r ∧ i_Rel (k + 4) u' v') v v1 v2) u v1 v2 := by
  refine wd_el (P := fun u v => wpX_setBreak (fun r u' => wpY_setBreak (fun r' v' => r' = r ∧ i_Rel (k + 4) u' v') v v1 v2) u v1 v2) I ?_
  intro L F br gd st pc ls lc wr co op fi se bk sk pl wo wf le en bo lo go ta ou yk yg yt la hz hR
  obtain ⟨hPG, hB, hbr, hO, hM⟩ := id hR
  have hL := hPG.1
  unfold wpX_setBreak
  dsimp only
  rcases wd_ix hL v1 with c | ⟨j, hj, rfl⟩
  · refine wd_xno1 c (br_f (by decide) ?_)
    unfold wpY_setBreak
    exact wd_yno1 c (br_f (by decide) ⟨rfl, wd_in hz hR⟩)
  · refine wd_xno0 hL hj (br_t rfl ?_)
    by_cases c1 : v2 < 0
    · refine br_t c1 ?_
      unfold wpY_setBreak
      exact wd_yno0 hL hj (br_t rfl (br_t c1 ⟨rfl, wd_in hz hR⟩))
    · refine br_f c1 ?_
      by_cases c2 : v2 ≤ 100
      · have vj : vp_in (nI j) 20 := vp_in_nI (by omega) (by omega)
        have cj : (nI j).toNatClampNeg = j := by rw [nI_clamp (by omega)]
        obtain ⟨s, hs, e2⟩ := nI_of2 (n := 100) (by decide) c1 c2
        have hB' := wd_BK_u (p := j) hB (Or.inr ⟨(rfl : (1 : Int32) = 1), (rfl : v2 = v2), s, hs, e2⟩)
        have hc := wd_cn_u (yk := yk) (p := j) (v := v2) 20 (by omega)
        rw [e2, wd_b_n hs, ← e2] at hc
        have K : ∀ br' : Int32, br' = nI (wd_cn (upd yk j v2) 20) → wX_setBreak_42 (fun r u' => wpY_setBreak (fun r' v' => r' = r ∧ i_Rel (k + 4) u' v') ((nI L), st, (nI F), co, wr, op, fi, se, yk, lo, yg, yt, la) (nI j) v2) (nI j) v2 (nI L) br' gd st pc ls lc (nI F) wr op fi se bk sk pl wo wf le en bo lo go ta ou := by
          intro br' hbr'
          refine wd_x42 hPG (by omega) hM ?_
          intro pc wo wf le en bo go hM'
          unfold wpY_setBreak
          dsimp only
          exact wd_yno0 hL hj (br_t rfl (br_f c1 (br_t c2 ⟨vj, nm_r (e' := upd yk j v2) (by rw [cj]) (wd_ybr ⟨hbr'.symm, wd_in hz ⟨hPG, hB', hbr', hO, hM'⟩⟩)⟩)))
        refine br_t c2 ⟨vj, ?_⟩
        rw [cj]
        rcases hB j (by omega) with ⟨b1, b2⟩ | ⟨b1, b2, s', b3, b4⟩
        · rw [b2, wd_b_m] at hc
          refine br_t b1 (nm_r (e' := nI (wd_cn (upd yk j v2) 20)) ?_ (K _ rfl))
          rw [hbr, nI_1]
          exact congrArg nI hc.symm
        · rw [b4, wd_b_n b3] at hc
          refine br_f (by rw [b1]; decide) (K br ?_)
          rw [hbr]
          exact congrArg nI (by omega)
      · refine br_f c2 ?_
        unfold wpY_setBreak
        exact wd_yno0 hL hj (br_t rfl (br_f c1 (br_f c2 ⟨rfl, wd_in hz hR⟩)))
theorem i_vc_clearBreak {k : Nat} {u : SX} {v : SY} (I : i_Rel k u v) (hk : k + 4 ≤ 2048) (v1 : Int32) : wpX_clearBreak (fun r u' => wpY_clearBreak (fun r' v' => r' = r ∧ i_Rel (k + 4) u' v') v v1) u v1 := by
  refine wd_el (P := fun u v => wpX_clearBreak (fun r u' => wpY_clearBreak (fun r' v' => r' = r ∧ i_Rel (k + 4) u' v') v v1) u v1) I ?_
  intro L F br gd st pc ls lc wr co op fi se bk sk pl wo wf le en bo lo go ta ou yk yg yt la hz hR
  obtain ⟨hPG, hB, hbr, hO, hM⟩ := id hR
  have hL := hPG.1
  unfold wpX_clearBreak wpY_clearBreak
  dsimp only
  rcases wd_ix hL v1 with c | ⟨j, hj, rfl⟩
  · exact wd_xno1 c (br_f (by decide) (wd_yno1 c (br_f (by decide) ⟨rfl, wd_in hz hR⟩)))
  · have vj : vp_in (nI j) 20 := vp_in_nI (by omega) (by omega)
    have cj : (nI j).toNatClampNeg = j := by rw [nI_clamp (by omega)]
    refine wd_xno0 hL hj (br_t rfl ⟨vj, ?_⟩)
    rw [cj]
    rcases hB j (by omega) with ⟨b1, b2⟩ | ⟨b1, b2, s', b3, b4⟩
    · exact br_t b1 (wd_yno0 hL hj (br_t rfl ⟨vj, br_f (by rw [b2]; decide) ⟨rfl, wd_in hz hR⟩⟩))
    · have hc := wd_cn_u (yk := yk) (p := j) (v := -1) 20 (by omega)
      rw [b4, wd_b_n b3, wd_b_m] at hc
      have hbr' : br - 1 = nI (wd_cn (upd yk j (-1)) 20) := by
        rw [hbr, show wd_cn yk 20 = wd_cn (upd yk j (-1)) 20 + 1 by omega]
        exact nI_pred _
      have hB' : wd_BK (upd bk j 0) sk (upd yk j (-1)) := by
        intro p hp
        by_cases e : p = j
        · subst e; rw [pk_us, pk_us]; exact Or.inl ⟨rfl, rfl⟩
        · rw [pk_un e, pk_un e]; exact hB p hp
      have y0 : 0 ≤ yk j := by rw [b4]; exact nI_pos' (by omega)
      refine br_f (by rw [b1]; decide) ⟨vj, nm_r (e' := upd bk j 0) (by rw [wd_n0]) (nm_e (wd_rwB hPG hM ?_))⟩
      intro pc wo wf le en bo go hM'
      exact wd_yno0 hL hj (br_t rfl ⟨vj, br_t y0 ⟨vj, nm_e (wd_ybr ⟨hbr'.symm, wd_in hz ⟨hPG, hB', hbr', hO, hM'⟩⟩)⟩⟩)
end
end
section
/-! the questions, and setLocal -/
section
variable {L F f i o a b d z x y t c n M G q j : Nat} {br gd st pc ls lc wr ys co v g p : Int32} {op fi se bk sk pl wo wf le en bo lo go ta ou yk yg yt la bk' : Nat → Int32}
theorem wd_F6 (hM : (st = 0 ∧ F = 0) ∨ (¬ st = 0 ∧ (wd_MC L F st pc ls lc co op se bk pl wo wf le en bo go ta yg yt))) : F ≤ 6 := by
  rcases hM with hM | hM
  · omega
  · exact hM.2.2.1
theorem wd_loc {j t : Nat} (hj : j < F) : ((nI F - 1) - nI j) * 4 + nI t = nI ((F - 1 - j) * 4 + t) := by
  obtain ⟨f, rfl⟩ : ∃ f, F = f + 1 := ⟨F - 1, by omega⟩
  rw [nI_pred, pk_sub (by omega), ← nI_add]
  exact congrArg (· + nI t) (pk_mul (f - j) 4)
theorem i_vc_setLocal {k : Nat} {u : SX} {v : SY} (I : i_Rel k u v) (hk : k + 4 ≤ 2048) (v1 : Int32) (v2 : Int32) : wpX_setLocal (fun r u' => wpY_setLocal (fun r' v' => r' = r ∧ i_Rel (k + 4) u' v') v v1 v2) u v1 v2 := by
  refine wd_el (P := fun u v => wpX_setLocal (fun r u' => wpY_setLocal (fun r' v' => r' = r ∧ i_Rel (k + 4) u' v') v v1 v2) u v1 v2) I ?_
  intro L F br gd st pc ls lc wr co op fi se bk sk pl wo wf le en bo lo go ta ou yk yg yt la hz hR
  obtain ⟨hPG, hB, hbr, hO, hM⟩ := id hR
  have h6 := wd_F6 hM
  by_cases c0 : F = 0
  · have e : nI F = 0 := by rw [c0]; rfl
    exact br_t e (br_t e ⟨rfl, wd_in hz hR⟩)
  · have e : ¬ nI F = 0 := nI_ne0 (by omega) (by omega)
    refine br_f e ?_
    by_cases c1 : v1 < 0
    · exact br_t c1 (br_f e (br_t c1 ⟨rfl, wd_in hz hR⟩))
    · refine br_f c1 ?_
      by_cases c2 : v1 ≤ 3
      · obtain ⟨t, ht, rfl⟩ := nI_of2 (n := 3) (by decide) c1 c2
        obtain ⟨f, rfl⟩ : ∃ f, F = f + 1 := ⟨F - 1, by omega⟩
        have vt : vp_in (nI (f * 4) + nI t) 24 := by rw [nI_add]; exact vp_in_nI (by omega) (by omega)
        refine br_t c2 (wd_xb ⟨vt, nm_e ?_⟩)
        refine br_f e (br_f c1 (br_t c2 ?_))
        rw [wd_bs]
        exact ⟨vt, nm_e ⟨rfl, wd_in hz hR⟩⟩
      · exact br_f c2 (br_f e (br_f c1 (br_f c2 ⟨rfl, wd_in hz hR⟩)))
theorem i_vc_state {k : Nat} {u : SX} {v : SY} (I : i_Rel k u v) (hk : k + 4 ≤ 2048) : wpX_state (fun r => wpY_state (fun r' => r' = r ∧ i_Rel (k + 4) u v) v) u := by
  refine wd_el (P := fun u v => wpX_state (fun r => wpY_state (fun r' => r' = r ∧ i_Rel (k + 4) u v) v) u) I ?_
  intro L F br gd st pc ls lc wr co op fi se bk sk pl wo wf le en bo lo go ta ou yk yg yt la hz hR
  exact And.intro rfl (wd_in hz hR)
theorem i_vc_depth {k : Nat} {u : SX} {v : SY} (I : i_Rel k u v) (hk : k + 4 ≤ 2048) : wpX_depth (fun r => wpY_depth (fun r' => r' = r ∧ i_Rel (k + 4) u v) v) u := by
  refine wd_el (P := fun u v => wpX_depth (fun r => wpY_depth (fun r' => r' = r ∧ i_Rel (k + 4) u v) v) u) I ?_
  intro L F br gd st pc ls lc wr co op fi se bk sk pl wo wf le en bo lo go ta ou yk yg yt la hz hR
  exact And.intro rfl (wd_in hz hR)
theorem i_vc_counter {k : Nat} {u : SX} {v : SY} (I : i_Rel k u v) (hk : k + 4 ≤ 2048) (v1 : Int32) : wpX_counter (fun r => wpY_counter (fun r' => r' = r ∧ i_Rel (k + 4) u v) v v1) u v1 := by
  refine wd_el (P := fun u v => wpX_counter (fun r => wpY_counter (fun r' => r' = r ∧ i_Rel (k + 4) u v) v v1) u v1) I ?_
  intro L F br gd st pc ls lc wr co op fi se bk sk pl wo wf le en bo lo go ta ou yk yg yt la hz hR
  obtain ⟨hPG, hB, hbr, hO, hM⟩ := id hR
  have hL := hPG.1
  have h6 := wd_F6 hM
  rcases wd_ix (L := F) (by omega) v1 with c | ⟨j, hj, rfl⟩
  · by_cases c1 : v1 < 0
    · exact br_t c1 (br_t c1 ⟨rfl, wd_in hz hR⟩)
    · have c2 : ¬ v1 < nI F := Int32.not_lt.mpr (c.resolve_left c1)
      exact br_f c1 (br_f c2 (br_f c1 (br_f c2 ⟨rfl, wd_in hz hR⟩)))
  · have c1 : ¬ nI j < 0 := nI_pos (by omega)
    have c2 : nI j < nI F := nI_lt hj (by omega)
    rcases hM with hM | ⟨h0, f1, f6, hW, hG, hT, q, i, b1, b2, b3, b4, b5⟩
    · omega
    · refine br_f c1 (br_t c2 ?_)
      cases j with
      | zero =>
        refine br_t (Int32.le_refl _) ?_
        subst b3
        rcases b5 with ⟨d1, d2, d3⟩ | ⟨d1, d2, d3⟩
        · refine br_t d1 ⟨vp_in_nI (by omega) (by omega), ?_⟩
          refine br_f c1 (br_t c2 (br_t rfl ⟨?_, wd_in hz hR⟩))
          rw [nI_clamp (show q < 2 ^ 31 by omega), b4, d2]
        · exact br_f (by rw [d1]; decide) (br_f c1 (br_t c2 (br_t rfl ⟨d2.symm, wd_in hz hR⟩)))
      | succ j =>
        obtain ⟨f, rfl⟩ : ∃ f, F = f + 1 + (j + 1) := ⟨F - (j + 2), by omega⟩
        obtain ⟨g, g1, g2, g3⟩ := hG f (by omega)
        have ge := wd_e_le (bk := bk) (pl := pl) g
        have e1 : nI (f + 1 + (j + 1)) - nI (j + 1) = nI (f + 1) := by rw [pk_sub (by omega)]; exact congrArg nI (by omega)
        have e2 : nI (f + 1 + (j + 1)) - 1 - nI (j + 1) = nI f := by
          rw [show nI (f + 1 + (j + 1)) - 1 = nI (f + 1 + j) from nI_pred (f + 1 + j), pk_sub (by omega)]
          exact congrArg nI (by omega)
        refine br_f (nI_nle (by omega) (by omega)) ?_
        rw [e1, nI_clamp (show f + 1 < 2 ^ 31 by omega), g3, nI_clamp (show wd_e bk pl g < 2 ^ 31 by omega), wd_W_wf hW g1]
        refine ⟨vp_in_nI (by omega) (by omega), vp_in_nI (by omega) (by omega), ?_⟩
        refine br_f c1 (br_t c2 (br_f (nI_ne0 (by omega) (by omega)) ?_))
        rw [e2, nI_clamp (show f < 2 ^ 31 by omega), g2]
        exact ⟨vp_in_nI (by omega) (by omega), rfl, wd_in hz hR⟩
theorem i_vc_local {k : Nat} {u : SX} {v : SY} (I : i_Rel k u v) (hk : k + 4 ≤ 2048) (v1 : Int32) (v2 : Int32) : wpX_local (fun r => wpY_local (fun r' => r' = r ∧ i_Rel (k + 4) u v) v v1 v2) u v1 v2 := by
  refine wd_el (P := fun u v => wpX_local (fun r => wpY_local (fun r' => r' = r ∧ i_Rel (k + 4) u v) v v1 v2) u v1 v2) I ?_
  intro L F br gd st pc ls lc wr co op fi se bk sk pl wo wf le en bo lo go ta ou yk yg yt la hz hR
  obtain ⟨hPG, hB, hbr, hO, hM⟩ := id hR
  have h6 := wd_F6 hM
  rcases wd_ix (L := F) (by omega) v1 with c | ⟨j, hj, rfl⟩
  · by_cases c1 : v1 < 0
    · exact br_t c1 (br_t c1 ⟨rfl, wd_in hz hR⟩)
    · have c2 : nI F ≤ v1 := c.resolve_left c1
      exact br_f c1 (br_t c2 (br_f c1 (br_t c2 ⟨rfl, wd_in hz hR⟩)))
  · have c1 : ¬ nI j < 0 := nI_pos (by omega)
    have c2 : ¬ nI F ≤ nI j := nI_ge hj (by omega)
    refine br_f c1 (br_f c2 ?_)
    by_cases c3 : v2 < 0
    · exact br_t c3 (br_f c1 (br_f c2 (br_t c3 ⟨rfl, wd_in hz hR⟩)))
    · refine br_f c3 ?_
      by_cases c4 : v2 ≤ 3
      · obtain ⟨t, ht, rfl⟩ := nI_of2 (n := 3) (by decide) c3 c4
        have vt : vp_in (((nI F - 1) - nI j) * 4 + nI t) 24 := by rw [wd_loc hj]; exact vp_in_nI (by omega) (by omega)
        exact br_t c4 ⟨vt, br_f c1 (br_f c2 (br_f c3 (br_t c4 ⟨vt, rfl, wd_in hz hR⟩)))⟩
      · exact br_f c4 (br_f c1 (br_f c2 (br_f c3 (br_f c4 ⟨rfl, wd_in hz hR⟩))))
theorem i_vc_outputs {k : Nat} {u : SX} {v : SY} (I : i_Rel k u v) (hk : k + 4 ≤ 2048) : wpX_outputs (fun r => wpY_outputs (fun r' => r' = r ∧ i_Rel (k + 4) u v) v) u := by
  refine wd_el (P := fun u v => wpX_outputs (fun r => wpY_outputs (fun r' => r' = r ∧ i_Rel (k + 4) u v) v) u) I ?_
  intro L F br gd st pc ls lc wr co op fi se bk sk pl wo wf le en bo lo go ta ou yk yg yt la hz hR
  exact And.intro rfl (wd_in hz hR)
theorem i_vc_output {k : Nat} {u : SX} {v : SY} (I : i_Rel k u v) (hk : k + 4 ≤ 2048) (v1 : Int32) : wpX_output (fun r => wpY_output (fun r' => r' = r ∧ i_Rel (k + 4) u v) v v1) u v1 := by
  refine wd_el (P := fun u v => wpX_output (fun r => wpY_output (fun r' => r' = r ∧ i_Rel (k + 4) u v) v v1) u v1) I ?_
  intro L F br gd st pc ls lc wr co op fi se bk sk pl wo wf le en bo lo go ta ou yk yg yt la hz hR
  obtain ⟨hPG, hB, hbr, hO, hM⟩ := id hR
  by_cases c1 : v1 < 0
  · exact br_t c1 (br_t c1 ⟨rfl, wd_in hz hR⟩)
  · refine br_f c1 ?_
    by_cases c2 : 7 < v1
    · exact br_t c2 (br_f c1 (br_t c2 ⟨rfl, wd_in hz hR⟩))
    · refine br_f c2 ?_
      by_cases c3 : v1 < wr
      · obtain ⟨j, hj, rfl⟩ := nI_of2 (n := 7) (M := 7) (by decide) c1 (Int32.not_lt.mp c2)
        refine br_t c3 ⟨pk_andIn _ 3 (by decide) (by decide), br_f c1 (br_f c2 (br_t c3 ⟨vp_in_nI (by omega) (by omega), ?_, wd_in hz hR⟩))⟩
        rw [nI_clamp (show j < 2 ^ 31 by omega)]
        exact hO j (by omega) c3
      · exact br_f c3 (br_f c1 (br_f c2 (br_f c3 ⟨rfl, wd_in hz hR⟩)))
theorem i_vc_skip {k : Nat} {u : SX} {v : SY} (I : i_Rel k u v) (hk : k + 4 ≤ 2048) (v1 : Int32) : wpX_skip (fun r => wpY_skip (fun r' => r' = r ∧ i_Rel (k + 4) u v) v v1) u v1 := by
  refine wd_el (P := fun u v => wpX_skip (fun r => wpY_skip (fun r' => r' = r ∧ i_Rel (k + 4) u v) v v1) u v1) I ?_
  intro L F br gd st pc ls lc wr co op fi se bk sk pl wo wf le en bo lo go ta ou yk yg yt la hz hR
  obtain ⟨hPG, hB, hbr, hO, hM⟩ := id hR
  have hL := hPG.1
  unfold wpX_skip wpY_skip
  dsimp only
  rcases wd_ix hL v1 with c | ⟨j, hj, rfl⟩
  · exact wd_xno1 c (br_f (by decide) (wd_yno1 c (br_f (by decide) ⟨rfl, wd_in hz hR⟩)))
  · have vj : vp_in (nI j) 20 := vp_in_nI (by omega) (by omega)
    rw [nI_clamp (show j < 2 ^ 31 by omega)]
    refine wd_xno0 hL hj (br_t rfl ⟨vj, ?_⟩)
    rcases hB j (by omega) with ⟨b1, b2⟩ | ⟨b1, b2, s', b3, b4⟩
    · exact br_t b1 (wd_yno0 hL hj (br_t rfl ⟨vj, br_f (by rw [b2]; decide) ⟨rfl, wd_in hz hR⟩⟩))
    · exact br_f (by rw [b1]; decide) ⟨vj, wd_yno0 hL hj (br_t rfl ⟨vj, br_t (by rw [b4]; exact nI_pos' (by omega)) ⟨vj, b2.symm, wd_in hz hR⟩⟩)⟩
end
end
section
/-! resume and the steps -/
section
variable {L F f i o a b d z x y t c n M G q j : Nat} {br gd st pc ls lc wr ys co v g p : Int32} {op fi se bk sk pl wo wf le en bo lo go ta ou yk yg yt la : Nat → Int32}
theorem wd_ns (h : ¬ (st = 0 ∨ st = 5 ∨ st = 6)) : ¬ st = 0 ∧ ¬ st = 5 ∧ ¬ st = 6 := ⟨fun z => h (Or.inl z), fun z => h (Or.inr (Or.inl z)), fun z => h (Or.inr (Or.inr z))⟩
theorem i_vc_resume {k : Nat} {u : SX} {v : SY} (I : i_Rel k u v) (hk : k + 4 ≤ 2048) (v1 : Int32) : wpX_resume (fun r u' => wpY_resume (fun r' v' => r' = r ∧ i_Rel (k + 4) u' v') v v1) u v1 := by
  refine wd_el (P := fun u v => wpX_resume (fun r u' => wpY_resume (fun r' v' => r' = r ∧ i_Rel (k + 4) u' v') v v1) u v1) I ?_
  intro L F br gd st pc ls lc wr co op fi se bk sk pl wo wf le en bo lo go ta ou yk yg yt la hz hR
  obtain ⟨hPG, hB, hbr, hO, hM⟩ := id hR
  have hL := hPG.1
  unfold wpX_resume wpY_resume
  dsimp only
  by_cases c : st = 0 ∨ st = 5 ∨ st = 6
  · exact wd_xnr1 c (br_f (by decide) (wd_yr1 c ⟨rfl, wd_in hz hR⟩))
  · obtain ⟨h0, h5, h6⟩ := wd_ns c
    rcases hM with hM | ⟨_, f1, f6, hW, hG, hT, q, i, b1, b2, rfl, b4, b5⟩
    · exact absurd hM.1 h0
    rcases b5 with ⟨rfl, rfl, hi⟩ | ⟨_, _, d⟩
    rotate_left
    · exact absurd d h6
    obtain ⟨M, m1, m2, hcX, hcY⟩ := wd_cm v1
    refine wd_xnr0 h0 h5 h6 (br_t rfl (hcX _ ?_))
    refine wd_runs (G := 0) (Q := fun _ _ _ => True) (gd := gd) (br := br) (st := st) (lc := lc) (fi := fi) (sk := sk) (lo := lo) (ys := st) hPG hW m1 m2 (by omega) ?_ h5 h6 hi b1 b4 f1 f6 hG hT hO hB trivial ?_
    · intro F i o yg F' c yg' _ _ _ _ f1' _ hc _ _
      exact ⟨⟨fun z => absurd (hz c (by omega)) z.1, fun z => absurd z (by omega)⟩, fun _ => trivial⟩
    · intro r st' pc' ls' lc' F' wr' co' sk' lo' go' ta' ou' yk' yg' yt' la' a1 a2 a3 a4 a5 hX hY
      exact hX _ (hcY _ _ _ _ _ _ _ _ _ _ _ _ _ _ _ h0 h5 h6 (hY _ ⟨rfl, wd_in hz ⟨hPG, a1, by rw [hbr, a2], a3, Or.inr ⟨a4, a5⟩⟩⟩))
theorem i_vc_stepInto {k : Nat} {u : SX} {v : SY} (I : i_Rel k u v) (hk : k + 4 ≤ 2048) : wpX_stepInto (fun r u' => wpY_stepInto (fun r' v' => r' = r ∧ i_Rel (k + 4) u' v') v) u := by
  refine wd_el (P := fun u v => wpX_stepInto (fun r u' => wpY_stepInto (fun r' v' => r' = r ∧ i_Rel (k + 4) u' v') v) u) I ?_
  intro L F br gd st pc ls lc wr co op fi se bk sk pl wo wf le en bo lo go ta ou yk yg yt la hz hR
  obtain ⟨hPG, hB, hbr, hO, hM⟩ := id hR
  have hL := hPG.1
  unfold wpX_stepInto
  dsimp only
  by_cases c : st = 0 ∨ st = 5 ∨ st = 6
  · refine wd_xnr1 c (br_f (by decide) ?_)
    unfold wpY_stepInto
    exact wd_yr1 c ⟨rfl, wd_in hz hR⟩
  · obtain ⟨h0, h5, h6⟩ := wd_ns c
    rcases hM with hM | ⟨_, f1, f6, hW, hG, hT, q, i, b1, b2, rfl, b4, b5⟩
    · exact absurd hM.1 h0
    rcases b5 with ⟨rfl, rfl, hi⟩ | ⟨_, _, d⟩
    rotate_left
    · exact absurd d h6
    obtain ⟨o, ho, hop⟩ := hPG.2 i hi
    refine wd_xnr0 h0 h5 h6 (br_t rfl (wd_xpn hL f6 f1 hi b1 b4 ho hop hW hG ?_))
    intro pl' hP
    refine wd_rp (k := k + 4) (M := 1) (G := 6) (Q := fun F0 i0 yg0 => F0 = F ∧ i0 = i ∧ yg0 = yg) (T := fun post => wpY_stepInto post ((nI L), st, (nI F), (nI i), wr, op, fi, se, yk, lo, yg, yt, la)) (fun r x1 x2 x3 x4 x5 x6 x7 x8 x9 y1 y2 y3 y4 y5 y6 y7 y8 y9 y10 y11 y12 y13 y14 y15 h => h) hPG (by omega) (by omega) (by omega) ?_ h0 h5 h6 hi b1 b4 f1 f6 (wd_FW_of hL hW hG) hT hO hB hbr ⟨rfl, rfl, rfl⟩ ?_
    · intro F0 i0 o0 yg0 F' c yg' hop0 ho0 _ _ g1 g6 hc hS hq
      obtain ⟨rfl, rfl, rfl⟩ := hq
      have e : o0 = o := (nI_eq (by omega) (by omega)).mp (hop0.symm.trans hop)
      subst e
      exact ⟨⟨fun _ => g6, fun _ => ⟨wd_PNs g1 hc hS hP (Or.inl (by decide)), nI_nlt (b := F') (a := 6) g6 (by decide)⟩⟩, fun z => absurd g6 z⟩
    · intro post h
      unfold wpY_stepInto
      exact wd_yr0 (M := 1) h0 h5 h6 (by omega) (by omega) h
theorem i_vc_stepOver {k : Nat} {u : SX} {v : SY} (I : i_Rel k u v) (hk : k + 4 ≤ 2048) (v1 : Int32) : wpX_stepOver (fun r u' => wpY_stepOver (fun r' v' => r' = r ∧ i_Rel (k + 4) u' v') v v1) u v1 := by
  refine wd_el (P := fun u v => wpX_stepOver (fun r u' => wpY_stepOver (fun r' v' => r' = r ∧ i_Rel (k + 4) u' v') v v1) u v1) I ?_
  intro L F br gd st pc ls lc wr co op fi se bk sk pl wo wf le en bo lo go ta ou yk yg yt la hz hR
  obtain ⟨hPG, hB, hbr, hO, hM⟩ := id hR
  have hL := hPG.1
  unfold wpX_stepOver
  dsimp only
  by_cases c : st = 0 ∨ st = 5 ∨ st = 6
  · refine wd_xnr1 c (br_f (by decide) ?_)
    unfold wpY_stepOver
    exact wd_yr1 c ⟨rfl, wd_in hz hR⟩
  · obtain ⟨h0, h5, h6⟩ := wd_ns c
    rcases hM with hM | ⟨_, f1, f6, hW, hG, hT, q, i, b1, b2, rfl, b4, b5⟩
    · exact absurd hM.1 h0
    rcases b5 with ⟨rfl, rfl, hi⟩ | ⟨_, _, d⟩
    rotate_left
    · exact absurd d h6
    obtain ⟨o, ho, hop⟩ := hPG.2 i hi
    obtain ⟨M, m1, m2, hcX, hcY⟩ := wd_cm v1
    refine wd_xnr0 h0 h5 h6 (br_t rfl (wd_xpn hL f6 f1 hi b1 b4 ho hop hW hG ?_))
    intro pl' hP
    refine hcX _ ?_
    refine wd_rp (k := k + 4) (M := M) (G := F) (Q := fun F0 i0 yg0 => (F0 = F ∧ i0 = i ∧ yg0 = yg) ∨ wd_Q2 L F pl' F0 yg0) (T := fun post => wpY_stepOver post ((nI L), st, (nI F), (nI i), wr, op, fi, se, yk, lo, yg, yt, la) v1) (fun r x1 x2 x3 x4 x5 x6 x7 x8 x9 y1 y2 y3 y4 y5 y6 y7 y8 y9 y10 y11 y12 y13 y14 y15 h => h) hPG m1 m2 f6 ?_ h0 h5 h6 hi b1 b4 f1 f6 (wd_FW_of hL hW hG) hT hO hB hbr (Or.inl ⟨rfl, rfl, rfl⟩) ?_
    · intro F0 i0 o0 yg0 F' c yg' hop0 ho0 _ _ g1 g6 hc hS hq
      rcases hq with hq | hq
      · obtain ⟨rfl, rfl, rfl⟩ := hq
        have e : o0 = o := (nI_eq (by omega) (by omega)).mp (hop0.symm.trans hop)
        subst e
        by_cases l : F' ≤ F0
        · exact ⟨⟨fun _ => l, fun _ => ⟨wd_PNs g1 hc hS hP (Or.inr l), nI_nlt l (by omega)⟩⟩, fun z => absurd l z⟩
        · refine ⟨⟨fun z => absurd (nI_lt (by omega) (by omega)) z.2, fun z => absurd z l⟩, fun _ => Or.inr ⟨by omega, fun _ g hg z => ?_⟩⟩
          rcases hS with ⟨s1, _⟩ | ⟨s1, s2, s3, s4⟩ | ⟨s1, s2, _⟩
          · omega
          · rw [s3, pk_us] at z
            have e : i0 + 1 = g := (nI_eq (by omega) (by omega)).mp z
            subst e
            exact hP.2.1 (by omega) hg
          · omega
      · have k := wd_Q2s g6 g1 hc hS hq
        exact ⟨k.1, fun z => Or.inr (k.2 z)⟩
    · intro post h
      unfold wpY_stepOver
      exact hcY _ _ _ _ _ _ _ _ _ _ _ _ _ _ _ h0 h5 h6 h
theorem i_vc_stepOut {k : Nat} {u : SX} {v : SY} (I : i_Rel k u v) (hk : k + 4 ≤ 2048) (v1 : Int32) : wpX_stepOut (fun r u' => wpY_stepOut (fun r' v' => r' = r ∧ i_Rel (k + 4) u' v') v v1) u v1 := by
  refine wd_el (P := fun u v => wpX_stepOut (fun r u' => wpY_stepOut (fun r' v' => r' = r ∧ i_Rel (k + 4) u' v') v v1) u v1) I ?_
  intro L F br gd st pc ls lc wr co op fi se bk sk pl wo wf le en bo lo go ta ou yk yg yt la hz hR
  obtain ⟨hPG, hB, hbr, hO, hM⟩ := id hR
  have hL := hPG.1
  unfold wpX_stepOut
  dsimp only
  by_cases c : st = 0 ∨ st = 5 ∨ st = 6
  · refine wd_xnr1 c (br_f (by decide) ?_)
    unfold wpY_stepOut
    exact wd_yr1 c ⟨rfl, wd_in hz hR⟩
  · obtain ⟨h0, h5, h6⟩ := wd_ns c
    rcases hM with hM | ⟨_, f1, f6, hW, hG, hT, q, i, b1, b2, rfl, b4, b5⟩
    · exact absurd hM.1 h0
    rcases b5 with ⟨rfl, rfl, hi⟩ | ⟨_, _, d⟩
    rotate_left
    · exact absurd d h6
    obtain ⟨M, m1, m2, hcX, hcY⟩ := wd_cm v1
    obtain ⟨f, rfl⟩ : ∃ f, F = f + 1 := ⟨F - 1, by omega⟩
    have K : ∀ pl' : Nat → Int32, wd_Q2 L f pl' (f + 1) yg → wX_stepOut_48 (fun r u' => wpY_stepOut (fun r' v' => r' = r ∧ i_Rel (k + 4) u' v') ((nI L), st, (nI (f + 1)), (nI i), wr, op, fi, se, yk, lo, yg, yt, la) v1) v1 (nI L) br (nI f) st (nI q) 0 lc (nI (f + 1)) wr op fi se bk sk pl' wo wf le en bo lo go ta ou := by
      intro pl' hQ
      unfold wX_stepOut_48
      refine hcX _ ?_
      refine wd_rp (k := k + 4) (M := M) (G := f) (Q := fun F0 i0 yg0 => wd_Q2 L f pl' F0 yg0) (T := fun post => wpY_stepOut post ((nI L), st, (nI (f + 1)), (nI i), wr, op, fi, se, yk, lo, yg, yt, la) v1) (fun r x1 x2 x3 x4 x5 x6 x7 x8 x9 y1 y2 y3 y4 y5 y6 y7 y8 y9 y10 y11 y12 y13 y14 y15 h => h) hPG m1 m2 (by omega) ?_ h0 h5 h6 hi b1 b4 f1 f6 (wd_FW_of hL hW hG) hT hO hB hbr hQ ?_
      · intro F0 i0 o0 yg0 F' c yg' _ _ _ _ g1 g6 hc hS hq
        exact wd_Q2s g6 g1 hc hS hq
      · intro post h
        unfold wpY_stepOut
        dsimp only
        rw [nI_pred]
        exact hcY _ _ _ _ _ _ _ _ _ _ _ _ _ _ _ h0 h5 h6 h
    refine wd_xnr0 h0 h5 h6 (br_t rfl (nm_r (nI_pred f) (pk_le (f + 1) 1 (fun l => ?_) (fun l => ?_))))
    · exact K pl ⟨by omega, fun z => absurd z (by omega)⟩
    · obtain ⟨f, rfl⟩ : ∃ g, f = g + 1 := ⟨f - 1, by omega⟩
      exact wd_xpr (f := f) hL f6 rfl hW hG (fun pl' h => K pl' ⟨by omega, fun _ g hg z => h g hg z⟩)
end
end
