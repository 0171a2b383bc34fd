section
/-! ===== Nat arrays under Int32 arrays ===== -/
def sw_lf (E : Nat → Nat) : Nat → Int32 := fun j => nI (E j)
def sw_up (E : Nat → Nat) (k v : Nat) : Nat → Nat := fun j => if j = k then v else E j
theorem sw_us {E : Nat → Nat} {k v : Nat} : sw_up E k v k = v := if_pos rfl
theorem sw_un {E : Nat → Nat} {k v j : Nat} (h : j ≠ k) : sw_up E k v j = E j := if_neg h
theorem sw_lfa (E : Nat → Nat) (j : Nat) : sw_lf E j = nI (E j) := rfl
theorem sw_upd (E : Nat → Nat) (k v : Nat) : upd (sw_lf E) k (nI v) = sw_lf (sw_up E k v) := by
  funext j
  show (if j = k then nI v else nI (E j)) = nI (if j = k then v else E j)
  by_cases h : j = k
  · rw [if_pos h, if_pos h]
  · rw [if_neg h, if_neg h]
theorem sw_up_le {E : Nat → Nat} {k v M : Nat} (h : ∀ j, E j ≤ M) (hv : v ≤ M) : ∀ j, sw_up E k v j ≤ M := by
  intro j
  by_cases e : j = k
  · rw [e, sw_us]; exact hv
  · rw [sw_un e]; exact h j
theorem sw_up_lt {E : Nat → Nat} {k v M : Nat} (h : ∀ j, E j < M) (hv : v < M) : ∀ j, sw_up E k v j < M := by
  intro j
  by_cases e : j = k
  · rw [e, sw_us]; exact hv
  · rw [sw_un e]; exact h j
/-! ===== bits ===== -/
theorem sw_sl : ∀ n, n < 32 → ((nI n &&& 31).toBitVec.smod 32).toNat = n := by decide +kernel
theorem sw_s1 : (((1 : Int32) &&& 31).toBitVec.smod 32).toNat = 1 := by decide
theorem sw_bit {T k : Nat} (hT : T < 2 ^ 31) (hk : k < 32) : (nI T >>> (nI k &&& 31)) &&& 1 = nI (T.testBit k).toNat := by
  have h2 : T / 2 ^ k ≤ T := Nat.div_le_self _ _
  rw [pk_shrN hT _ k (sw_sl k hk), pk_andN (by omega) 1 (by decide), Nat.toNat_testBit]
theorem sw_half {e : Nat} (he : e < 2 ^ 31) : nI e >>> ((1 : Int32) &&& 31) = nI (e / 2) := by
  rw [pk_shrN he _ 1 sw_s1]
theorem sw_par {e : Nat} (he : e < 2 ^ 31) : nI e &&& 1 = nI (e % 2) := by
  rw [pk_andN (by omega) 1 (by decide)]
theorem sw_one {k : Nat} (hk : k < 31) : (1 : Int32) <<< (nI k &&& 31) = nI (2 ^ k) := by
  have h : 2 ^ k < 2 ^ 31 := Nat.pow_lt_pow_right (by decide) hk
  have := pk_shlN (n := 1) (nI k &&& 31) k (sw_sl k (by omega)) (by omega)
  rw [Nat.one_mul] at this
  exact this
theorem sw_nand (a b : Nat) : nI a &&& nI b = nI (a &&& b) := by
  apply Int32.toBitVec_inj.1
  show BitVec.ofNat 32 a &&& BitVec.ofNat 32 b = BitVec.ofNat 32 (a &&& b)
  apply BitVec.eq_of_getLsbD_eq
  intro i hi
  simp [hi]
theorem sw_nxor (a b : Nat) : nI a ^^^ nI b = nI (a ^^^ b) := by
  apply Int32.toBitVec_inj.1
  show BitVec.ofNat 32 a ^^^ BitVec.ofNat 32 b = BitVec.ofNat 32 (a ^^^ b)
  apply BitVec.eq_of_getLsbD_eq
  intro i hi
  simp [hi]
theorem sw_nor (a b : Nat) : nI a ||| nI b = nI (a ||| b) := by
  apply Int32.toBitVec_inj.1
  show BitVec.ofNat 32 a ||| BitVec.ofNat 32 b = BitVec.ofNat 32 (a ||| b)
  apply BitVec.eq_of_getLsbD_eq
  intro i hi
  simp [hi]
/-- a without the bits of b -/
def sw_cl (a b : Nat) : Nat := a &&& (b ^^^ (2 ^ 32 - 1))
theorem sw_ncl (a b : Nat) : nI a &&& (nI b ^^^ (-1)) = nI (sw_cl a b) := by
  rw [show (-1 : Int32) = nI (2 ^ 32 - 1) from by decide, sw_nxor, sw_nand]
  rfl
theorem sw_hi {a j : Nat} (h : a < 1024) (hj : 10 ≤ j) : a.testBit j = false := by
  have h1 : 2 ^ 10 ≤ 2 ^ j := Nat.pow_le_pow_right (by decide) hj
  exact Nat.testBit_lt_two_pow (by omega)
theorem sw_cl_b {a b : Nat} (h : a < 1024) (j : Nat) : (sw_cl a b).testBit j = (a.testBit j && !b.testBit j) := by
  unfold sw_cl
  rw [Nat.testBit_and, Nat.testBit_xor, Nat.testBit_two_pow_sub_one]
  rcases Nat.lt_or_ge j 32 with g | g
  · simp [g]
  · rw [sw_hi h (by omega)]; simp
theorem sw_cl_lt {a b : Nat} (h : a < 1024) : sw_cl a b < 1024 := Nat.lt_of_le_of_lt Nat.and_le_left h
theorem sw_or_lt {a b : Nat} (ha : a < 1024) (hb : b < 1024) : a ||| b < 1024 := Nat.or_lt_two_pow (n := 10) ha hb
theorem sw_and_lt {a b : Nat} (ha : a < 1024) : a &&& b < 1024 := Nat.lt_of_le_of_lt Nat.and_le_left ha
theorem sw_p_lt {k : Nat} (hk : k < 10) : 2 ^ k < 1024 := Nat.pow_lt_pow_right (m := k) (n := 10) (by decide) hk
theorem sw_sb_b (a k j : Nat) : (a ||| 2 ^ k).testBit j = (a.testBit j || decide (k = j)) := by
  rw [Nat.testBit_or, Nat.testBit_two_pow]
theorem sw_cb_b {a : Nat} (h : a < 1024) (k j : Nat) : (sw_cl a (2 ^ k)).testBit j = (a.testBit j && !decide (k = j)) := by
  rw [sw_cl_b h, Nat.testBit_two_pow]
theorem sw_ext {a b : Nat} (ha : a < 1024) (hb : b < 1024) (h : ∀ j, j < 10 → a.testBit j = b.testBit j) : a = b := by
  apply Nat.eq_of_testBit_eq
  intro j
  rcases Nat.lt_or_ge j 10 with g | g
  · exact h j g
  · rw [sw_hi ha g, sw_hi hb g]
theorem sw_zero {a : Nat} (ha : a < 1024) (h : ∀ j, j < 10 → a.testBit j = false) : a = 0 :=
  sw_ext ha (by omega) (fun j hj => by rw [h j hj, Nat.zero_testBit])
theorem sw_s16 : ∀ n, n < 1024 → (nI n).toInt16.toInt32 = nI n := by decide +kernel
theorem sw_s8 : ∀ n, n < 20 → (nI n).toInt8.toInt32 = nI n := by decide +kernel
theorem sw_nb : ∀ n, n < 20 → vp_nar .byte (nI n) = nI n := by
  intro n hn
  rw [vp_nar_byte, sw_s8 n hn]
/-! ===== counting ===== -/
def sw_cn (f : Nat → Bool) : Nat → Nat
  | 0 => 0
  | n + 1 => sw_cn f n + (f n).toNat
theorem sw_tn1 {b : Bool} (h : b = true) : b.toNat = 1 := by rw [h]; rfl
theorem sw_tn0 {b : Bool} (h : b = false) : b.toNat = 0 := by rw [h]; rfl
theorem sw_tn (b : Bool) : b.toNat ≤ 1 := Bool.toNat_le b
theorem sw_cn_le (f : Nat → Bool) : ∀ n, sw_cn f n ≤ n
  | 0 => Nat.le_refl 0
  | n + 1 => by
    have h1 := sw_cn_le f n
    have h2 := sw_tn (f n)
    show sw_cn f n + (f n).toNat ≤ n + 1
    omega
theorem sw_tnm {a b : Bool} (h : a = true → b = true) : a.toNat ≤ b.toNat := by
  cases a with
  | false => exact Nat.zero_le _
  | true => rw [h rfl]; exact Nat.le_refl _
theorem sw_cn_mono {f g : Nat → Bool} : ∀ n, (∀ j, j < n → f j = true → g j = true) → sw_cn f n ≤ sw_cn g n
  | 0, _ => Nat.le_refl 0
  | n + 1, h => by
    have h1 := sw_cn_mono n (fun j hj => h j (by omega))
    have h2 := sw_tnm (h n (by omega))
    show sw_cn f n + (f n).toNat ≤ sw_cn g n + (g n).toNat
    omega
theorem sw_cn_cg {f g : Nat → Bool} : ∀ n, (∀ j, j < n → f j = g j) → sw_cn f n = sw_cn g n
  | 0, _ => rfl
  | n + 1, h => by
    have h1 := sw_cn_cg n (fun j hj => h j (by omega))
    show sw_cn f n + (f n).toNat = sw_cn g n + (g n).toNat
    rw [h1, h n (by omega)]
theorem sw_cn_up (f : Nat → Bool) {m : Nat} : ∀ n, m ≤ n → sw_cn f m ≤ sw_cn f n
  | 0, h => by rw [show m = 0 by omega]; exact Nat.le_refl _
  | n + 1, h => by
    rcases Nat.lt_or_ge n m with g | g
    · rw [show m = n + 1 by omega]; exact Nat.le_refl _
    · exact Nat.le_trans (sw_cn_up f n g) (Nat.le_add_right _ _)
/-- one more: g is f but for k, which f has not -/
theorem sw_cn_lt {f g : Nat → Bool} {k : Nat} (hf : f k = false) (hg : g k = true) : ∀ n, k < n → (∀ j, j < n → f j = true → g j = true) → sw_cn f n + 1 ≤ sw_cn g n
  | 0, h, _ => by omega
  | n + 1, h, hm => by
    show sw_cn f n + (f n).toNat + 1 ≤ sw_cn g n + (g n).toNat
    by_cases e : k = n
    · subst e
      have h1 := sw_cn_mono k (fun j hj => hm j (by omega))
      rw [sw_tn0 hf, sw_tn1 hg]
      omega
    · have h1 := sw_cn_lt hf hg n (by omega) (fun j hj => hm j (by omega))
      have h2 := sw_tnm (hm n (by omega))
      omega
theorem sw_cn_1 {f g : Nat → Bool} {k : Nat} (hf : f k = false) (hg : g k = true) : ∀ n, k < n → (∀ j, j < n → j ≠ k → f j = g j) → sw_cn g n = sw_cn f n + 1
  | 0, h, _ => by omega
  | n + 1, h, hm => by
    show sw_cn g n + (g n).toNat = sw_cn f n + (f n).toNat + 1
    by_cases e : k = n
    · subst e
      rw [sw_cn_cg (f := f) (g := g) k (fun j hj => hm j (by omega) (by omega)), sw_tn0 hf, sw_tn1 hg]
    · rw [sw_cn_1 hf hg n (by omega) (fun j hj => hm j (by omega)), hm n (by omega) (fun z => e z.symm)]
      omega
theorem sw_cn_pos {f : Nat → Bool} {k : Nat} (hf : f k = true) {n : Nat} (hk : k < n) : 1 ≤ sw_cn f n := by
  have h := sw_cn_up f (m := k + 1) n hk
  have h2 : sw_cn f (k + 1) = sw_cn f k + (f k).toNat := rfl
  rw [sw_tn1 hf] at h2
  omega
theorem sw_cn_two {f : Nat → Bool} {j k : Nat} (hj : f j = true) (hk : f k = true) (h : j < k) {n : Nat} (hn : k < n) : 2 ≤ sw_cn f n := by
  have h1 := sw_cn_up f (m := k + 1) n hn
  have h2 : sw_cn f (k + 1) = sw_cn f k + (f k).toNat := rfl
  have h3 := sw_cn_pos hj h
  rw [sw_tn1 hk] at h2
  omega
theorem sw_cn_ex {f : Nat → Bool} : ∀ n, sw_cn f n ≠ 0 → ∃ k, k < n ∧ f k = true
  | 0, h => absurd rfl h
  | n + 1, h => by
    by_cases g : f n = true
    · exact ⟨n, by omega, g⟩
    · have g' : f n = false := by simpa using g
      have h2 : sw_cn f (n + 1) = sw_cn f n + (f n).toNat := rfl
      rw [sw_tn0 g'] at h2
      obtain ⟨k, hk, e⟩ := sw_cn_ex n (fun z => h (by rw [h2, z]))
      exact ⟨k, by omega, e⟩
end
section
/-! ===== one axis: t who is there, c how many edges stand, o the order, P the place of an edge, m the masks ===== -/
def sw_Pm (t : Nat → Bool) (c : Nat) (o P : Nat → Nat) : Prop :=
  (∀ i, i < c → o i < 20 ∧ t (o i / 2) = true ∧ P (o i) = i) ∧ (∀ e, e < 20 → t (e / 2) = true → P e < c ∧ o (P e) = e)
def sw_Lh (t : Nat → Bool) (P : Nat → Nat) : Prop := ∀ k, k < 10 → t k = true → P (2 * k) < P (2 * k + 1)
def sw_Ov (t : Nat → Bool) (m P : Nat → Nat) : Prop :=
  ∀ a b, a < 10 → b < 10 → ((m a).testBit b = true ↔ (a ≠ b ∧ t a = true ∧ t b = true ∧ P (2 * a) < P (2 * b + 1) ∧ P (2 * b) < P (2 * a + 1)))
/-- in order by the keys, but for the edge x (x = 20: all of them) -/
def sw_Sx (t : Nat → Bool) (κ P : Nat → Nat) (x : Nat) : Prop :=
  ∀ e f, e < 20 → f < 20 → e ≠ x → f ≠ x → t (e / 2) = true → t (f / 2) = true → P e < P f → κ e ≤ κ f
theorem sw_Pm_inj {t : Nat → Bool} {c : Nat} {o P : Nat → Nat} (h : sw_Pm t c o P) {e f : Nat} (he : e < 20) (hf : f < 20) (te : t (e / 2) = true) (tf : t (f / 2) = true) (hp : P e = P f) : e = f := by
  have h1 := (h.2 e he te).2
  have h2 := (h.2 f hf tf).2
  rw [← h1, ← h2, hp]
/-- the place of an edge behind an exchange of the places i and i + 1, where u and w stood -/
def sw_xP (P : Nat → Nat) (i u w : Nat) : Nat → Nat := fun e => if e = u then i + 1 else if e = w then i else P e
theorem sw_xP_u (P : Nat → Nat) (i u w : Nat) : sw_xP P i u w u = i + 1 := if_pos rfl
theorem sw_xP_w {P : Nat → Nat} {i u w : Nat} (h : u ≠ w) : sw_xP P i u w w = i := by
  unfold sw_xP
  rw [if_neg (fun z => h z.symm), if_pos rfl]
theorem sw_xP_o {P : Nat → Nat} {i u w e : Nat} (h : e ≠ u) (h2 : e ≠ w) : sw_xP P i u w e = P e := by
  unfold sw_xP
  rw [if_neg h, if_neg h2]
/-- what an edge that is there meets in an exchange -/
theorem sw_xP_c {t : Nat → Bool} {c : Nat} {o P : Nat → Nat} (h : sw_Pm t c o P) {i u w : Nat} (hi : i + 1 < c) (hu : o i = u) (hw : o (i + 1) = w) {e : Nat} (he : e < 20) (te : t (e / 2) = true) :
    (e = u ∧ e ≠ w ∧ P e = i ∧ sw_xP P i u w e = i + 1) ∨ (e = w ∧ e ≠ u ∧ P e = i + 1 ∧ sw_xP P i u w e = i) ∨ (e ≠ u ∧ e ≠ w ∧ P e ≠ i ∧ P e ≠ i + 1 ∧ sw_xP P i u w e = P e) := by
  have pu : P u = i := by rw [← hu]; exact (h.1 i (by omega)).2.2
  have pw : P w = i + 1 := by rw [← hw]; exact (h.1 (i + 1) hi).2.2
  have uw : u ≠ w := fun z => by rw [z, pw] at pu; omega
  by_cases e1 : e = u
  · left
    rw [e1]
    exact ⟨rfl, uw, pu, sw_xP_u P i u w⟩
  · by_cases e2 : e = w
    · right; left
      rw [e2]
      exact ⟨rfl, fun z => uw z.symm, pw, sw_xP_w uw⟩
    · right; right
      refine ⟨e1, e2, fun z => e1 ?_, fun z => e2 ?_, sw_xP_o e1 e2⟩
      · have := (h.2 e he te).2
        rw [z, hu] at this
        exact this.symm
      · have := (h.2 e he te).2
        rw [z, hw] at this
        exact this.symm
theorem sw_x_Pm {t : Nat → Bool} {c : Nat} {o o' P : Nat → Nat} (h : sw_Pm t c o P) {i u w : Nat} (hi : i + 1 < c) (hu : o i = u) (hw : o (i + 1) = w)
    (o1 : o' i = w) (o2 : o' (i + 1) = u) (o3 : ∀ j, j < c → j ≠ i → j ≠ i + 1 → o' j = o j) : sw_Pm t c o' (sw_xP P i u w) := by
  have bu := h.1 i (by omega)
  have bw := h.1 (i + 1) hi
  rw [hu] at bu
  rw [hw] at bw
  have uw : u ≠ w := fun z => by have h1 := bu.2.2; have h2 := bw.2.2; rw [z, h2] at h1; omega
  refine ⟨fun j hj => ?_, fun e he te => ?_⟩
  · by_cases e1 : j = i
    · rw [e1, o1]
      exact ⟨bw.1, bw.2.1, sw_xP_w uw⟩
    · by_cases e2 : j = i + 1
      · rw [e2, o2]
        exact ⟨bu.1, bu.2.1, sw_xP_u P i u w⟩
      · rw [o3 j hj e1 e2]
        have hj2 := h.1 j hj
        refine ⟨hj2.1, hj2.2.1, ?_⟩
        rw [sw_xP_o (fun z => ?_) (fun z => ?_)]
        · exact hj2.2.2
        · have h1 := hj2.2.2
          rw [z, bu.2.2] at h1
          exact e1 h1.symm
        · have h1 := hj2.2.2
          rw [z, bw.2.2] at h1
          exact e2 h1.symm
  · have hp := h.2 e he te
    rcases sw_xP_c h hi hu hw he te with g | g | g
    · rw [g.2.2.2]
      exact ⟨hi, by rw [o2, g.1]⟩
    · rw [g.2.2.2]
      exact ⟨by omega, by rw [o1, g.1]⟩
    · rw [g.2.2.2.2, o3 _ hp.1 g.2.2.1 g.2.2.2.1]
      exact hp
theorem sw_x_Lh {t : Nat → Bool} {c : Nat} {o P : Nat → Nat} (h : sw_Pm t c o P) (hl : sw_Lh t P) {i u w : Nat} (hi : i + 1 < c) (hu : o i = u) (hw : o (i + 1) = w) (hne : u / 2 ≠ w / 2) : sw_Lh t (sw_xP P i u w) := by
  intro k hk tk
  have h0 := hl k hk tk
  have h1 := sw_xP_c h hi hu hw (e := 2 * k) (by omega) (by rw [show 2 * k / 2 = k by omega]; exact tk)
  have h2 := sw_xP_c h hi hu hw (e := 2 * k + 1) (by omega) (by rw [show (2 * k + 1) / 2 = k by omega]; exact tk)
  omega
/-- two boxes, by plain numbers: a's low and high at p1, p2, b's at q1, q2; behind the exchange at p1' .. -/
theorem sw_x_num {u w i a b p1 p2 q1 q2 p1' p2' q1' q2' : Nat} (hne : u / 2 ≠ w / 2) (hab : a ≠ b)
    (c1 : (2 * a = u ∧ 2 * a ≠ w ∧ p1 = i ∧ p1' = i + 1) ∨ (2 * a = w ∧ 2 * a ≠ u ∧ p1 = i + 1 ∧ p1' = i) ∨ (2 * a ≠ u ∧ 2 * a ≠ w ∧ p1 ≠ i ∧ p1 ≠ i + 1 ∧ p1' = p1))
    (c2 : (2 * a + 1 = u ∧ 2 * a + 1 ≠ w ∧ p2 = i ∧ p2' = i + 1) ∨ (2 * a + 1 = w ∧ 2 * a + 1 ≠ u ∧ p2 = i + 1 ∧ p2' = i) ∨ (2 * a + 1 ≠ u ∧ 2 * a + 1 ≠ w ∧ p2 ≠ i ∧ p2 ≠ i + 1 ∧ p2' = p2))
    (c3 : (2 * b = u ∧ 2 * b ≠ w ∧ q1 = i ∧ q1' = i + 1) ∨ (2 * b = w ∧ 2 * b ≠ u ∧ q1 = i + 1 ∧ q1' = i) ∨ (2 * b ≠ u ∧ 2 * b ≠ w ∧ q1 ≠ i ∧ q1 ≠ i + 1 ∧ q1' = q1))
    (c4 : (2 * b + 1 = u ∧ 2 * b + 1 ≠ w ∧ q2 = i ∧ q2' = i + 1) ∨ (2 * b + 1 = w ∧ 2 * b + 1 ≠ u ∧ q2 = i + 1 ∧ q2' = i) ∨ (2 * b + 1 ≠ u ∧ 2 * b + 1 ≠ w ∧ q2 ≠ i ∧ q2 ≠ i + 1 ∧ q2' = q2))
    (la : p1 < p2) (lb : q1 < q2) :
    ((u % 2 ≠ w % 2 ∧ ((a = u / 2 ∧ b = w / 2) ∨ (a = w / 2 ∧ b = u / 2))) → (u % 2 = 1 ↔ (p1' < q2' ∧ q1' < p2'))) ∧
    (¬ (u % 2 ≠ w % 2 ∧ ((a = u / 2 ∧ b = w / 2) ∨ (a = w / 2 ∧ b = u / 2))) → ((p1 < q2 ∧ q1 < p2) ↔ (p1' < q2' ∧ q1' < p2'))) := by
  rcases c1 with c1 | c1 | c1 <;> rcases c2 with c2 | c2 | c2 <;> rcases c3 with c3 | c3 | c3 <;> rcases c4 with c4 | c4 | c4 <;> first | omega | (refine ⟨fun h => ?_, fun h => ?_⟩ <;> omega)
/-- the masks behind an exchange -/
def sw_xm (m m' : Nat → Nat) (u w : Nat) : Prop :=
  ∀ a b, a < 10 → b < 10 → (m' a).testBit b = if u % 2 ≠ w % 2 ∧ ((a = u / 2 ∧ b = w / 2) ∨ (a = w / 2 ∧ b = u / 2)) then decide (u % 2 = 1) else (m a).testBit b
theorem sw_x_Ov {t : Nat → Bool} {c : Nat} {o P m m' : Nat → Nat} (h : sw_Pm t c o P) (hl : sw_Lh t P) (ho : sw_Ov t m P) {i u w : Nat} (hi : i + 1 < c) (hu : o i = u) (hw : o (i + 1) = w) (hne : u / 2 ≠ w / 2) (hm : sw_xm m m' u w) : sw_Ov t m' (sw_xP P i u w) := by
  intro a b ha hb
  have bu := h.1 i (by omega)
  have bw := h.1 (i + 1) hi
  rw [hu] at bu
  rw [hw] at bw
  by_cases hh : a ≠ b ∧ t a = true ∧ t b = true
  · obtain ⟨hab, ta, tb⟩ := hh
    have c1 := sw_xP_c h hi hu hw (e := 2 * a) (by omega) (by rw [show 2 * a / 2 = a by omega]; exact ta)
    have c2 := sw_xP_c h hi hu hw (e := 2 * a + 1) (by omega) (by rw [show (2 * a + 1) / 2 = a by omega]; exact ta)
    have c3 := sw_xP_c h hi hu hw (e := 2 * b) (by omega) (by rw [show 2 * b / 2 = b by omega]; exact tb)
    have c4 := sw_xP_c h hi hu hw (e := 2 * b + 1) (by omega) (by rw [show (2 * b + 1) / 2 = b by omega]; exact tb)
    have N := sw_x_num hne hab c1 c2 c3 c4 (hl a ha ta) (hl b hb tb)
    rw [hm a b ha hb]
    by_cases hc : u % 2 ≠ w % 2 ∧ ((a = u / 2 ∧ b = w / 2) ∨ (a = w / 2 ∧ b = u / 2))
    · rw [if_pos hc, decide_eq_true_iff, N.1 hc]
      exact ⟨fun z => ⟨hab, ta, tb, z⟩, fun z => z.2.2.2⟩
    · rw [if_neg hc, ho a b ha hb]
      exact ⟨fun z => ⟨hab, ta, tb, (N.2 hc).mp z.2.2.2⟩, fun z => ⟨hab, ta, tb, (N.2 hc).mpr z.2.2.2⟩⟩
  · have hc : ¬ (u % 2 ≠ w % 2 ∧ ((a = u / 2 ∧ b = w / 2) ∨ (a = w / 2 ∧ b = u / 2))) := by
      intro z
      apply hh
      rcases z.2 with z | z
      · rw [z.1, z.2]; exact ⟨hne, bu.2.1, bw.2.1⟩
      · rw [z.1, z.2]; exact ⟨fun y => hne y.symm, bw.2.1, bu.2.1⟩
    rw [hm a b ha hb, if_neg hc, ho a b ha hb]
    exact ⟨fun z => absurd ⟨z.1, z.2.1, z.2.2.1⟩ hh, fun z => absurd ⟨z.1, z.2.1, z.2.2.1⟩ hh⟩
theorem sw_x_Sx {t : Nat → Bool} {c : Nat} {o P κ : Nat → Nat} (h : sw_Pm t c o P) {i u w x : Nat} (hs : sw_Sx t κ P x) (hi : i + 1 < c) (hu : o i = u) (hw : o (i + 1) = w) (hx : x = u ∨ x = w) : sw_Sx t κ (sw_xP P i u w) x := by
  intro e f he hf ex fx te tf hlt
  refine hs e f he hf ex fx te tf ?_
  have h1 := sw_xP_c h hi hu hw he te
  have h2 := sw_xP_c h hi hu hw hf tf
  by_cases ef : e = f
  · rw [ef] at hlt; omega
  · omega
end
section
/-! ===== the component's small methods, and what an exchange does ===== -/
section
variable {post : St1 → Prop} {pr : Int32 → Prop} {th cn : Int32} {a1 a2 a3 : Nat → Int32} {E O A : Nat → Nat}
theorem sw_i10 (x j : Nat) : nI x * 10 + nI j = nI (x * 10 + j) := by
  rw [show (10 : Int32) = nI 10 from rfl, pk_mul, nI_add]
theorem sw_i20 (x j : Nat) : nI x * 20 + nI j = nI (x * 20 + j) := by
  rw [show (20 : Int32) = nI 20 from rfl, pk_mul, nI_add]
/-- the cell of an edge, and its key -/
def sw_ei (x e : Nat) : Nat := e / 2 * 4 + 2 * x + e % 2
def sw_ky (E : Nat → Nat) (x e : Nat) : Nat := 2 * E (sw_ei x e) + e % 2
theorem sw_ei_lt {x e : Nat} (hx : x < 2) (he : e < 20) : sw_ei x e < 40 := by
  unfold sw_ei
  omega
theorem sw_eix {x e : Nat} (he : e < 2 ^ 31) : (((nI e >>> ((1 : Int32) &&& 31)) * 4) + (2 * nI x)) + (nI e &&& 1) = nI (sw_ei x e) := by
  rw [sw_half he, sw_par he, show (4 : Int32) = nI 4 from rfl, show (2 : Int32) = nI 2 from rfl, pk_mul, pk_mul, nI_add, nI_add]
  rfl
theorem sw_value {x e : Nat} (hx : x < 2) (he : e < 20) (h : pr (nI (E (sw_ei x e)))) : wpX_valueOf pr (th, cn, sw_lf E, a2, a3) (nI x) (nI e) := by
  have hi := sw_ei_lt hx he
  unfold wpX_valueOf
  dsimp only
  rw [sw_eix (by omega), nI_clamp (by omega)]
  exact ⟨vp_in_nI hi (by omega), h⟩
theorem sw_must {x e f : Nat} (hx : x < 2) (he : e < 20) (hf : f < 20) (hE : ∀ j, E j ≤ 1000) (h1 : sw_ky E x e < sw_ky E x f → pr 1) (h0 : sw_ky E x f ≤ sw_ky E x e → pr 0) : wpX_mustPass pr (th, cn, sw_lf E, a2, a3) (nI x) (nI e) (nI f) := by
  have b1 := hE (sw_ei x e)
  have b2 := hE (sw_ei x f)
  unfold sw_ky at h1 h0
  unfold wpX_mustPass
  dsimp only
  refine sw_value hx he (sw_value hx hf ?_)
  rw [sw_par (show e < 2 ^ 31 by omega), sw_par (show f < 2 ^ 31 by omega)]
  exact pk_lt (E (sw_ei x e)) (E (sw_ei x f)) (fun z => h1 (by omega)) (fun z => pk_eq (E (sw_ei x e)) (E (sw_ei x f)) (fun y => pk_le (f % 2) (e % 2) (fun v => h0 (by omega)) (fun v => h1 (by omega))) (fun y => h0 (by omega)))
/-- a mask with a bit set to on -/
def sw_sb (on : Bool) (a k : Nat) : Nat := if on = true then a ||| 2 ^ k else sw_cl a (2 ^ k)
theorem sw_sb_t (on : Bool) {a : Nat} (h : a < 1024) (k b : Nat) : (sw_sb on a k).testBit b = if b = k then on else a.testBit b := by
  unfold sw_sb
  cases on with
  | true =>
    rw [if_pos rfl, sw_sb_b]
    by_cases e : b = k
    · rw [if_pos e, e]; simp
    · have e' : ¬ k = b := fun z => e z.symm
      rw [if_neg e]; simp [e']
  | false =>
    rw [if_neg (by decide), sw_cb_b h]
    by_cases e : b = k
    · rw [if_pos e, e]; simp
    · have e' : ¬ k = b := fun z => e z.symm
      rw [if_neg e]; simp [e']
theorem sw_sb_lt (on : Bool) {a k : Nat} (h : a < 1024) (hk : k < 10) : sw_sb on a k < 1024 := by
  unfold sw_sb
  cases on with
  | true => rw [if_pos rfl]; exact sw_or_lt h (sw_p_lt hk)
  | false => rw [if_neg (by decide)]; exact sw_cl_lt h
def sw_sA (on : Bool) (A : Nat → Nat) (x j k : Nat) : Nat → Nat := sw_up (sw_up A (x * 10 + j) (sw_sb on (A (x * 10 + j)) k)) (x * 10 + k) (sw_sb on (A (x * 10 + k)) j)
theorem sw_sA_lt {on : Bool} {x j k : Nat} (hA : ∀ z, A z < 1024) (hj : j < 10) (hk : k < 10) : ∀ z, sw_sA on A x j k z < 1024 :=
  sw_up_lt (sw_up_lt hA (sw_sb_lt on (hA _) hk)) (sw_sb_lt on (hA _) hj)
theorem sw_sA_t {on : Bool} {x j k : Nat} (hA : ∀ z, A z < 1024) (hx : x < 2) (hj : j < 10) (hk : k < 10) (hjk : j ≠ k) (y a b : Nat) (hy : y < 2) (ha : a < 10) (hb : b < 10) :
    (sw_sA on A x j k (y * 10 + a)).testBit b = if y = x ∧ ((a = j ∧ b = k) ∨ (a = k ∧ b = j)) then on else (A (y * 10 + a)).testBit b := by
  unfold sw_sA
  by_cases e1 : y * 10 + a = x * 10 + k
  · have e2 : y = x ∧ a = k := by omega
    rw [e1, sw_us, sw_sb_t on (hA _)]
    by_cases e3 : b = j
    · rw [if_pos e3, if_pos ⟨e2.1, Or.inr ⟨e2.2, e3⟩⟩]
    · rw [if_neg e3, if_neg (by omega)]
  · rw [sw_un e1]
    by_cases e2 : y * 10 + a = x * 10 + j
    · have e4 : y = x ∧ a = j := by omega
      rw [e2, sw_us, sw_sb_t on (hA _)]
      by_cases e3 : b = k
      · rw [if_pos e3, if_pos ⟨e4.1, Or.inl ⟨e4.2, e3⟩⟩]
      · rw [if_neg e3, if_neg (by omega)]
    · rw [sw_un e2, if_neg (by omega)]
theorem sw_set1 {x j k : Nat} (hx : x < 2) (hj : j < 10) (hk : k < 10) (hjk : j ≠ k) (hA : ∀ z, A z < 1024) (h : post (th, cn, a1, a2, sw_lf (sw_sA true A x j k))) : wpX_set post (th, cn, a1, a2, sw_lf A) (nI x) (nI j) (nI k) 1 := by
  have b1 : A (x * 10 + j) ||| 2 ^ k < 1024 := sw_or_lt (hA _) (sw_p_lt hk)
  have b2 : A (x * 10 + k) ||| 2 ^ j < 1024 := sw_or_lt (hA _) (sw_p_lt hj)
  unfold wpX_set
  dsimp only
  intro x5 e5 x6 e6
  rw [sw_i10] at e5 e6
  subst e5 e6
  refine br_f (by decide) ⟨vp_in_nI (by omega) (by omega), ?_⟩
  unfold wX_set_54
  refine ⟨vp_in_nI (by omega) (by omega), ?_⟩
  intro a3 e3
  rw [nI_clamp (by omega), sw_one (by omega), sw_lfa, sw_nor, sw_s16 _ b1, sw_upd] at e3
  subst e3
  refine br_f (by decide) ⟨vp_in_nI (by omega) (by omega), vp_in_nI (by omega) (by omega), ?_⟩
  intro a3 e3
  rw [nI_clamp (by omega), sw_one (by omega), sw_lfa, sw_un (by omega), sw_nor, sw_s16 _ b2, sw_upd] at e3
  subst e3
  exact h
theorem sw_set0 {x j k : Nat} (hx : x < 2) (hj : j < 10) (hk : k < 10) (hjk : j ≠ k) (hA : ∀ z, A z < 1024) (h : post (th, cn, a1, a2, sw_lf (sw_sA false A x j k))) : wpX_set post (th, cn, a1, a2, sw_lf A) (nI x) (nI j) (nI k) 0 := by
  have b1 : sw_cl (A (x * 10 + j)) (2 ^ k) < 1024 := sw_cl_lt (hA _)
  have b2 : sw_cl (A (x * 10 + k)) (2 ^ j) < 1024 := sw_cl_lt (hA _)
  unfold wpX_set
  dsimp only
  intro x5 e5 x6 e6
  rw [sw_i10] at e5 e6
  subst e5 e6
  refine br_t rfl ⟨vp_in_nI (by omega) (by omega), ?_⟩
  unfold wX_set_54
  refine ⟨vp_in_nI (by omega) (by omega), ?_⟩
  intro a3 e3
  rw [nI_clamp (by omega), sw_one (by omega), sw_lfa, sw_ncl, sw_s16 _ b1, sw_upd] at e3
  subst e3
  refine br_t rfl ⟨vp_in_nI (by omega) (by omega), vp_in_nI (by omega) (by omega), ?_⟩
  intro a3 e3
  rw [nI_clamp (by omega), sw_one (by omega), sw_lfa, sw_un (by omega), sw_ncl, sw_s16 _ b2, sw_upd] at e3
  subst e3
  exact h
/-- the masks behind an exchange of u and w along x -/
def sw_xA (A A' : Nat → Nat) (x u w : Nat) : Prop := (∀ z, A' z < 1024) ∧ ∀ y a b, y < 2 → a < 10 → b < 10 →
  (A' (y * 10 + a)).testBit b = if y = x ∧ u % 2 ≠ w % 2 ∧ ((a = u / 2 ∧ b = w / 2) ∨ (a = w / 2 ∧ b = u / 2)) then decide (u % 2 = 1) else (A (y * 10 + a)).testBit b
theorem sw_xA_same {x u w : Nat} (hA : ∀ z, A z < 1024) (h : u % 2 = w % 2) : sw_xA A A x u w :=
  ⟨hA, fun y a b _ _ _ => by rw [if_neg (fun z => z.2.1 h)]⟩
theorem sw_xA_set {x u w : Nat} {on : Bool} (hA : ∀ z, A z < 1024) (hx : x < 2) (bu : u < 20) (bw : w < 20) (hne : u / 2 ≠ w / 2) (h : u % 2 ≠ w % 2) (hon : decide (u % 2 = 1) = on) : sw_xA A (sw_sA on A x (u / 2) (w / 2)) x u w := by
  refine ⟨sw_sA_lt hA (by omega) (by omega), fun y a b hy ha hb => ?_⟩
  rw [sw_sA_t hA hx (by omega) (by omega) hne y a b hy ha hb, hon]
  by_cases c : y = x ∧ ((a = u / 2 ∧ b = w / 2) ∨ (a = w / 2 ∧ b = u / 2))
  · rw [if_pos c, if_pos ⟨c.1, h, c.2⟩]
  · rw [if_neg c, if_neg (fun z => c ⟨z.1, z.2.2⟩)]
def sw_xO (O : Nat → Nat) (x i u w : Nat) : Nat → Nat := sw_up (sw_up O (x * 20 + i) w) (x * 20 + i + 1) u
theorem sw_exch {x i u w : Nat} (hx : x < 2) (hi : i + 1 < 20) (hu : O (x * 20 + i) = u) (hw : O (x * 20 + i + 1) = w) (bu : u < 20) (bw : w < 20) (hne : u / 2 ≠ w / 2) (hA : ∀ z, A z < 1024)
    (H : ∀ A', sw_xA A A' x u w → post (th, cn, a1, sw_lf (sw_xO O x i u w), sw_lf A')) : wpX_exchange post (th, cn, a1, sw_lf O, sw_lf A) (nI x) (nI i) := by
  unfold wpX_exchange
  dsimp only
  intro x3 e3
  rw [sw_i20] at e3
  subst e3
  refine ⟨vp_in_nI (by omega) (by omega), ?_⟩
  intro x4 e4
  rw [nI_clamp (by omega), sw_lfa, hu] at e4
  subst e4
  rw [nI_1]
  refine ⟨vp_in_nI (by omega) (by omega), vp_in_nI (by omega) (by omega), ?_⟩
  intro a2 e2
  rw [nI_clamp (show x * 20 + i < 2 ^ 31 by omega), nI_clamp (show x * 20 + i + 1 < 2 ^ 31 by omega), sw_lfa, hw, sw_nb w bw, sw_upd] at e2
  subst e2
  refine ⟨vp_in_nI (by omega) (by omega), ?_⟩
  intro a2 e2
  rw [nI_clamp (by omega), sw_nb u bu, sw_upd] at e2
  subst e2
  intro x5 e5
  rw [sw_half (by omega)] at e5
  subst e5
  refine ⟨vp_in_nI (by omega) (by omega), ?_⟩
  intro x6 e6
  rw [nI_clamp (by omega), sw_lfa, sw_un (by omega), sw_us, sw_half (by omega)] at e6
  subst e6
  rw [sw_par (by omega)]
  refine pk_eq (u % 2) 1 (fun z => ?_) (fun z => ?_)
  · unfold wX_exchange_68
    rw [nI_clamp (by omega), sw_lfa, sw_un (by omega), sw_us, sw_par (by omega)]
    refine ⟨vp_in_nI (by omega) (by omega), pk_eq (w % 2) 0 (fun y => ?_) (fun y => ?_)⟩
    · unfold wX_exchange_86
      exact br_f (by decide) (br_f (by decide) (sw_set1 hx (by omega) (by omega) hne hA (H _ (sw_xA_set hA hx bu bw hne (by omega) (decide_eq_true z)))))
    · unfold wX_exchange_86
      refine br_f (by decide) (br_t rfl ?_)
      unfold wX_exchange_111
      exact br_f (by decide) (H A (sw_xA_same hA (by omega)))
  · unfold wX_exchange_68
    rw [nI_clamp (by omega), sw_lfa, sw_un (by omega), sw_us, sw_par (by omega)]
    refine ⟨vp_in_nI (by omega) (by omega), pk_eq (w % 2) 0 (fun y => ?_) (fun y => ?_)⟩
    · unfold wX_exchange_86
      refine br_t rfl ?_
      unfold wX_exchange_111
      exact br_t rfl (br_f (by decide) (H A (sw_xA_same hA (by omega))))
    · unfold wX_exchange_86
      refine br_t rfl ?_
      unfold wX_exchange_111
      exact br_t rfl (br_t rfl (sw_set0 hx (by omega) (by omega) hne hA (H _ (sw_xA_set hA hx bu bw hne (by omega) (decide_eq_false z)))))
theorem sw_find {x e i : Nat} (hx : x < 2) (hi : i < 20) (he : e < 20) (hO : ∀ j, O j < 20) (h1 : O (x * 20 + i) = e) (h2 : ∀ j, j < i → O (x * 20 + j) ≠ e) (h : pr (nI i)) : wpX_find pr (th, cn, a1, sw_lf O, a3) (nI x) (nI e) := by
  unfold wpX_find
  dsimp only
  refine pk_loop (σ := Unit) (fun n j _ => wX_find_2 pr (nI x) (nI e) th cn a1 (sw_lf O) a3 n (nI j)) (fun _ _ => True) i 0 () (by omega) trivial ?_ ?_
  · intro n _ _
    refine pk_le 19 i (fun _ => h) (fun z => ⟨pk_in (x * 20 + i) 40 (by omega) (sw_i20 x i), br_t ?_ h⟩)
    rw [sw_i20, nI_clamp (by omega), sw_lfa, h1]
  · intro n j _ hj _ hw
    refine pk_le 19 j (fun z => absurd z (by omega)) (fun z => ⟨pk_in (x * 20 + j) 40 (by omega) (sw_i20 x j), br_f ?_ (nm_r (nI_1 j) (hw () trivial))⟩)
    have b := hO (x * 20 + j)
    rw [sw_i20, nI_clamp (by omega), sw_lfa, nI_eq (by omega) (by omega)]
    exact h2 j hj
end
end
section
/-! ===== one axis in the arrays; an edge that moves ===== -/
/-- along x all stand as they must, but for the edge e, which may stand out of order; the other axis is that of O0, A0 -/
def sw_Md (T c x e : Nat) (E O0 A0 O A P : Nat → Nat) : Prop :=
  sw_Pm T.testBit c (fun i => O (x * 20 + i)) P ∧ sw_Lh T.testBit P ∧ sw_Ov T.testBit (fun j => A (x * 10 + j)) P ∧ sw_Sx T.testBit (sw_ky E x) P e ∧
  (∀ j, O j < 20) ∧ (∀ j, A j < 1024) ∧ (∀ y j, y < 2 → y ≠ x → j < 20 → O (y * 20 + j) = O0 (y * 20 + j)) ∧
  (∀ y a b, y < 2 → y ≠ x → a < 10 → b < 10 → (A (y * 10 + a)).testBit b = (A0 (y * 10 + a)).testBit b)
def sw_LH (T x : Nat) (E : Nat → Nat) : Prop := ∀ k, k < 10 → T.testBit k = true → E (k * 4 + 2 * x) ≤ E (k * 4 + 2 * x + 1)
theorem sw_ei_lo (x k : Nat) : sw_ei x (2 * k) = k * 4 + 2 * x := by
  unfold sw_ei
  omega
theorem sw_ei_hi (x k : Nat) : sw_ei x (2 * k + 1) = k * 4 + 2 * x + 1 := by
  unfold sw_ei
  omega
theorem sw_ei_ne {x e f : Nat} (h : f ≠ e) : sw_ei x f ≠ sw_ei x e := by
  unfold sw_ei
  omega
/-- a box's own low and high are never exchanged -/
theorem sw_own {T c x e f : Nat} {E O P : Nat → Nat} (hl : sw_Lh T.testBit P) (hh : sw_LH T x E) (he : e < 20) (hf : f < 20) (te : T.testBit (e / 2) = true) (hp : P e < P f) (hk : sw_ky E x f < sw_ky E x e) : e / 2 ≠ f / 2 := by
  intro z
  have h1 := hl (e / 2) (by omega) te
  have h2 := hh (e / 2) (by omega) te
  rcases Nat.mod_two_eq_zero_or_one e with g | g
  · have e1 : e = 2 * (e / 2) := by omega
    have f1 : f = 2 * (e / 2) ∨ f = 2 * (e / 2) + 1 := by omega
    rcases f1 with f1 | f1
    · rw [← e1] at f1
      rw [f1] at hp
      omega
    · have ke : sw_ky E x e = 2 * E (e / 2 * 4 + 2 * x) := by
        unfold sw_ky
        rw [show sw_ei x e = e / 2 * 4 + 2 * x by unfold sw_ei; omega]
        omega
      have kf : sw_ky E x f = 2 * E (e / 2 * 4 + 2 * x + 1) + 1 := by
        unfold sw_ky
        rw [show sw_ei x f = e / 2 * 4 + 2 * x + 1 by unfold sw_ei; omega]
        omega
      omega
  · have e1 : e = 2 * (e / 2) + 1 := by omega
    have f1 : f = 2 * (e / 2) ∨ f = 2 * (e / 2) + 1 := by omega
    rcases f1 with f1 | f1
    · rw [← e1] at h1
      rw [← f1] at h1
      omega
    · rw [← e1] at f1
      rw [f1] at hp
      omega
theorem sw_xO_1 (O : Nat → Nat) (x i u w : Nat) : sw_xO O x i u w (x * 20 + i) = w := by
  unfold sw_xO
  rw [sw_un (by omega), sw_us]
theorem sw_xO_2 (O : Nat → Nat) (x i u w : Nat) : sw_xO O x i u w (x * 20 + i + 1) = u := by
  unfold sw_xO
  rw [sw_us]
theorem sw_xO_3 {O : Nat → Nat} {x i u w j : Nat} (h1 : j ≠ x * 20 + i) (h2 : j ≠ x * 20 + i + 1) : sw_xO O x i u w j = O j := by
  unfold sw_xO
  rw [sw_un h2, sw_un h1]
theorem sw_exMd {T c x e i u w : Nat} {E O0 A0 O A A' P : Nat → Nat} (h : sw_Md T c x e E O0 A0 O A P) (hx : x < 2) (hc : c ≤ 20) (hi : i + 1 < c) (hu : O (x * 20 + i) = u) (hw : O (x * 20 + i + 1) = w) (hne : u / 2 ≠ w / 2) (hex : e = u ∨ e = w) (hA : sw_xA A A' x u w) :
    sw_Md T c x e E O0 A0 (sw_xO O x i u w) A' (sw_xP P i u w) := by
  obtain ⟨h1, h2, h3, h4, h5, h6, h7, h8⟩ := h
  have bu : u < 20 := hu ▸ h5 _
  have bw : w < 20 := hw ▸ h5 _
  refine ⟨?_, ?_, ?_, ?_, ?_, hA.1, ?_, ?_⟩
  · exact sw_x_Pm h1 hi hu hw (sw_xO_1 O x i u w) (sw_xO_2 O x i u w) (fun j hj n1 n2 => sw_xO_3 (by omega) (by omega))
  · exact sw_x_Lh h1 h2 hi hu hw hne
  · refine sw_x_Ov h1 h2 h3 hi hu hw hne (fun a b ha hb => ?_)
    show (A' (x * 10 + a)).testBit b = _
    rw [hA.2 x a b hx ha hb]
    by_cases g : u % 2 ≠ w % 2 ∧ ((a = u / 2 ∧ b = w / 2) ∨ (a = w / 2 ∧ b = u / 2))
    · rw [if_pos g, if_pos ⟨rfl, g⟩]
    · rw [if_neg g, if_neg (fun z => g z.2)]
  · exact sw_x_Sx h1 h4 hi hu hw hex
  · exact sw_up_lt (sw_up_lt h5 bw) bu
  · intro y j hy hyx hj
    rw [sw_xO_3 (by omega) (by omega)]
    exact h7 y j hy hyx hj
  · intro y a b hy hyx ha hb
    rw [hA.2 y a b hy ha hb, if_neg (fun z => hyx z.1)]
    exact h8 y a b hy hyx ha hb
section
variable {post : St1 → Prop} {T c x e : Nat} {E O0 A0 : Nat → Nat}
theorem sw_exM {i u w : Nat} {O A P : Nat → Nat} (h : sw_Md T c x e E O0 A0 O A P) (hx : x < 2) (hc : c ≤ 20) (hi : i + 1 < c) (hu : O (x * 20 + i) = u) (hw : O (x * 20 + i + 1) = w) (hne : u / 2 ≠ w / 2) (hex : e = u ∨ e = w)
    (H : ∀ O' A', sw_Md T c x e E O0 A0 O' A' (sw_xP P i u w) → post (nI T, nI c, sw_lf E, sw_lf O', sw_lf A')) : wpX_exchange post (nI T, nI c, sw_lf E, sw_lf O, sw_lf A) (nI x) (nI i) :=
  sw_exch hx (by omega) hu hw (hu ▸ h.2.2.2.2.1 _) (hw ▸ h.2.2.2.2.1 _) hne h.2.2.2.2.2.1 (fun A' hA => H _ A' (sw_exMd h hx hc hi hu hw hne hex hA))
theorem sw_sorted {O A P : Nat → Nat} (h : sw_Md T c x e E O0 A0 O A P)
    (hb : ∀ f, f < 20 → T.testBit (f / 2) = true → P f < P e → sw_ky E x f ≤ sw_ky E x e)
    (ha : ∀ f, f < 20 → T.testBit (f / 2) = true → P e < P f → sw_ky E x e ≤ sw_ky E x f) : sw_Md T c x 20 E O0 A0 O A P := by
  obtain ⟨h1, h2, h3, h4, h5, h6, h7, h8⟩ := h
  refine ⟨h1, h2, h3, ?_, h5, h6, h7, h8⟩
  intro f g hf hg _ _ tf tg hp
  by_cases e1 : f = e
  · rw [e1] at hp ⊢
    exact ha g hg tg hp
  · by_cases e2 : g = e
    · rw [e2] at hp ⊢
      exact hb f hf tf hp
    · exact h4 f g hf hg e1 e2 tf tg hp
/-- the loop upwards -/
theorem sw_l69 (hx : x < 2) (he : e < 20) (te : T.testBit (e / 2) = true) (hE : ∀ j, E j ≤ 1000) (hc : c ≤ 20) (hh : sw_LH T x E)
    (H : ∀ O' A' P', sw_Md T c x 20 E O0 A0 O' A' P' → post (nI T, nI c, sw_lf E, sw_lf O', sw_lf A')) :
    ∀ (n i : Nat) (O A P : Nat → Nat), c < n + i → sw_Md T c x e E O0 A0 O A P → P e = i → (∀ f, f < 20 → T.testBit (f / 2) = true → P f < i → sw_ky E x f ≤ sw_ky E x e) →
      wX_moveEdge_69 post (nI x) (nI e) n (nI i) (nI T) (nI c) (sw_lf E) (sw_lf O) (sw_lf A) := by
  intro n
  induction n with
  | zero =>
    intro i O A P hn h hp _
    have := (h.1.2 e he te).1
    omega
  | succ n ih =>
    intro i O A P hn h hp hb
    have hpc := h.1.2 e he te
    have hoe : O (x * 20 + i) = e := by rw [← hp]; exact hpc.2
    have hic : i < c := by rw [← hp]; exact hpc.1
    have hb' : ∀ f, f < 20 → T.testBit (f / 2) = true → P f < P e → sw_ky E x f ≤ sw_ky E x e := by rw [hp]; exact hb
    refine pk_le (c - 1) i (fun z => ?_) (fun z => ?_) (pk_sub (a := c) (b := 1) (by omega)) rfl
    · refine H O A P (sw_sorted h hb' (fun f hf tf g => ?_))
      have := (h.1.2 f hf tf).1
      omega
    · have ix : nI x * 20 + nI i + 1 = nI (x * 20 + i + 1) := by rw [sw_i20, nI_1]
      refine ⟨pk_in (x * 20 + i + 1) 40 (by omega) ix, ?_⟩
      rw [ix, nI_clamp (by omega), sw_lfa]
      have hfc := h.1.1 (i + 1) (by omega)
      have hfo : (fun i => O (x * 20 + i)) (i + 1) = O (x * 20 + i + 1) := rfl
      rw [hfo] at hfc
      generalize hf : O (x * 20 + i + 1) = f at hfc ⊢
      refine sw_must hx hfc.1 he hE (fun hk => ?_) (fun hk => ?_)
      · have hne := sw_own (E := E) (c := c) (O := O) h.2.1 hh he hfc.1 te (by omega) hk
        have hef : e ≠ f := fun z => hne (by rw [z])
        refine br_f (by decide) (sw_exM h hx hc (by omega) hoe hf hne (Or.inl rfl) (fun O' A' hM => ?_))
        refine nm_r (nI_1 i) (ih (i + 1) O' A' _ (by omega) hM (sw_xP_u P i e f) (fun g hg tg hpg => ?_))
        rcases sw_xP_c h.1 (show i + 1 < c by omega) hoe hf hg tg with q | q | q
        · omega
        · rw [q.1]; omega
        · exact hb g hg tg (by omega)
      · refine br_t rfl (H O A P (sw_sorted h hb' (fun g hg tg hpg => ?_)))
        by_cases e1 : g = f
        · rw [e1]; exact hk
        · have hgf : P g ≠ P f := fun z => e1 (sw_Pm_inj h.1 hg hfc.1 tg hfc.2.1 z)
          have hfe : f ≠ e := fun z => by have := hfc.2.2; rw [z, hp] at this; omega
          have hge : g ≠ e := fun z => by rw [z] at hpg; omega
          exact Nat.le_trans hk (h.2.2.2.1 f g hfc.1 hg hfe hge hfc.2.1 tg (by omega))
/-- the loop downwards -/
theorem sw_l28 (hx : x < 2) (he : e < 20) (te : T.testBit (e / 2) = true) (hE : ∀ j, E j ≤ 1000) (hc : c ≤ 20) (hh : sw_LH T x E)
    (H : ∀ O' A' P', sw_Md T c x 20 E O0 A0 O' A' P' → post (nI T, nI c, sw_lf E, sw_lf O', sw_lf A')) :
    ∀ (i : Nat) (O A P : Nat → Nat), sw_Md T c x e E O0 A0 O A P → P e = i →
      wX_moveEdge_28 post (nI x) (nI e) (i + 1) (nI i) (nI T) (nI c) (sw_lf E) (sw_lf O) (sw_lf A) := by
  intro i
  induction i with
  | zero =>
    intro O A P h hp
    exact br_t (by decide) ⟨c + 1, sw_l69 hx he te hE hc hh H (c + 1) 0 O A P (by omega) h hp (fun f _ _ z => absurd z (by omega))⟩
  | succ i ih =>
    intro O A P h hp
    have hpc := h.1.2 e he te
    have hoe : O (x * 20 + i + 1) = e := by
      have := hpc.2
      rw [hp] at this
      exact this
    have hic : i + 1 < c := by rw [← hp]; exact hpc.1
    refine pk_le (i + 1) 0 (fun z => absurd z (by omega)) (fun _ => ?_)
    have ix : nI x * 20 + nI (i + 1) - 1 = nI (x * 20 + i) := by
      rw [sw_i20]
      exact nI_pred (x * 20 + i)
    refine ⟨pk_in (x * 20 + i) 40 (by omega) ix, ?_⟩
    rw [ix, nI_clamp (by omega), sw_lfa]
    have hfc := h.1.1 i (by omega)
    have hfo : (fun i => O (x * 20 + i)) i = O (x * 20 + i) := rfl
    rw [hfo] at hfc
    generalize hf : O (x * 20 + i) = f at hfc ⊢
    refine sw_must hx he hfc.1 hE (fun hk => ?_) (fun hk => ?_)
    · have hne := sw_own (E := E) (c := c) (O := O) h.2.1 hh hfc.1 he hfc.2.1 (by omega) hk
      have hfe : f ≠ e := fun z => hne (by rw [z])
      refine br_f (by decide) (nm_r (pk_m1 i) (sw_exM h hx hc hic hf hoe hne (Or.inr rfl) (fun O' A' hM => ?_)))
      exact ih O' A' _ hM (sw_xP_w hfe)
    · refine br_t rfl ⟨c + 1, sw_l69 hx he te hE hc hh H (c + 1) (i + 1) O A P (by omega) h hp (fun g hg tg hpg => ?_)⟩
      by_cases e1 : g = f
      · rw [e1]; exact hk
      · have hgf : P g ≠ P f := fun z => e1 (sw_Pm_inj h.1 hg hfc.1 tg hfc.2.1 z)
        have hfe : f ≠ e := fun z => by have := hfc.2.2; rw [z, hp] at this; omega
        have hge : g ≠ e := fun z => by rw [z] at hpg; omega
        exact Nat.le_trans (h.2.2.2.1 g f hg hfc.1 hge hfe tg hfc.2.1 (by omega)) hk
end
section
variable {post : St1 → Prop} {T c x : Nat} {E O0 A0 : Nat → Nat}
/-- an edge is given another value -/
theorem sw_Md_new {e v : Nat} {O A P : Nat → Nat} (h : sw_Md T c x 20 E O0 A0 O A P) : sw_Md T c x e (sw_up E (sw_ei x e) v) O0 A0 O A P := by
  obtain ⟨h1, h2, h3, h4, h5, h6, h7, h8⟩ := h
  refine ⟨h1, h2, h3, ?_, h5, h6, h7, h8⟩
  intro f g hf hg f1 g1 tf tg hp
  have := h4 f g hf hg (by omega) (by omega) tf tg hp
  unfold sw_ky at this ⊢
  rw [sw_un (sw_ei_ne f1), sw_un (sw_ei_ne g1)]
  exact this
theorem sw_mvE {e v : Nat} {O A P : Nat → Nat} (hx : x < 2) (he : e < 20) (te : T.testBit (e / 2) = true) (hv : v ≤ 1000) (hE : ∀ j, E j ≤ 1000) (hc : c ≤ 20) (h : sw_Md T c x 20 E O0 A0 O A P) (hh : sw_LH T x (sw_up E (sw_ei x e) v))
    (H : ∀ O' A' P', sw_Md T c x 20 (sw_up E (sw_ei x e) v) O0 A0 O' A' P' → post (nI T, nI c, sw_lf (sw_up E (sw_ei x e) v), sw_lf O', sw_lf A')) :
    wpX_moveEdge post (nI T, nI c, sw_lf E, sw_lf O, sw_lf A) (nI x) (nI e) (nI v) := by
  have hi := sw_ei_lt hx he
  have hM := sw_Md_new (e := e) (v := v) h
  have hpc := h.1.2 e he te
  unfold wpX_moveEdge
  dsimp only
  rw [sw_eix (by omega)]
  refine ⟨vp_in_nI hi (by omega), ?_⟩
  intro a1 e1
  rw [nI_clamp (by omega), sw_s16 v (by omega), sw_upd] at e1
  subst e1
  refine sw_find hx (i := P e) (by omega) he h.2.2.2.2.1 hpc.2 (fun j hj z => ?_) ?_
  · have := (h.1.1 j (by omega)).2.2
    have z' : (fun i => O (x * 20 + i)) j = e := z
    rw [z'] at this
    omega
  · exact ⟨P e + 1, sw_l28 hx he te (sw_up_le hE hv) hc hh H (P e) O A P hM rfl⟩
/-- the cells of a span, and all others as they were -/
def sw_Ed (x k lo hi : Nat) (E E' : Nat → Nat) : Prop := E' (k * 4 + 2 * x) = lo ∧ E' (k * 4 + 2 * x + 1) = hi ∧ ∀ j, j ≠ k * 4 + 2 * x → j ≠ k * 4 + 2 * x + 1 → E' j = E j
theorem sw_Ed_LH {k lo hi : Nat} {E' : Nat → Nat} (hx : x < 2) (h : sw_Ed x k lo hi E E') (hl : lo ≤ hi) (hh : sw_LH T x E) : sw_LH T x E' := by
  intro j hj tj
  by_cases e : j = k
  · rw [e, h.1, h.2.1]; exact hl
  · rw [h.2.2 _ (by omega) (by omega), h.2.2 _ (by omega) (by omega)]
    exact hh j hj tj
theorem sw_mvS {k lo hi : Nat} {O A P : Nat → Nat} (hx : x < 2) (hk : k < 10) (tk : T.testBit k = true) (hl : lo ≤ hi) (hhi : hi ≤ 1000) (hE : ∀ j, E j ≤ 1000) (hc : c ≤ 20) (h : sw_Md T c x 20 E O0 A0 O A P) (hh : sw_LH T x E)
    (H : ∀ E' O' A' P', sw_Ed x k lo hi E E' → (∀ j, E' j ≤ 1000) → sw_Md T c x 20 E' O0 A0 O' A' P' → sw_LH T x E' → post (nI T, nI c, sw_lf E', sw_lf O', sw_lf A')) :
    wpX_moveSpan post (nI T, nI c, sw_lf E, sw_lf O, sw_lf A) (nI x) (nI k) (nI lo) (nI hi) := by
  have ix : nI k * 4 + 2 * nI x = nI (k * 4 + 2 * x) := by
    rw [show (4 : Int32) = nI 4 from rfl, show (2 : Int32) = nI 2 from rfl, pk_mul, pk_mul, nI_add]
  have ik : 2 * nI k = nI (2 * k) := by
    rw [show (2 : Int32) = nI 2 from rfl, pk_mul]
  have b := hE (k * 4 + 2 * x)
  have b0 := hh k hk tk
  have tl : T.testBit (2 * k / 2) = true := by rw [show 2 * k / 2 = k by omega]; exact tk
  have th : T.testBit ((2 * k + 1) / 2) = true := by rw [show (2 * k + 1) / 2 = k by omega]; exact tk
  unfold wpX_moveSpan
  dsimp only
  rw [ix, ik, nI_1, nI_clamp (by omega), sw_lfa]
  refine ⟨vp_in_nI (by omega) (by omega), pk_le (E (k * 4 + 2 * x)) lo (fun z => ?_) (fun z => ?_)⟩
  · have hE1 := sw_up_le (k := sw_ei x (2 * k + 1)) hE hhi
    refine sw_mvE hx (by omega) th hhi hE hc h ?_ (fun O1 A1 P1 h1 => ?_)
    · intro j hj tj
      rw [sw_ei_hi]
      by_cases e : j = k
      · rw [e, sw_us, sw_un (by omega)]; omega
      · rw [sw_un (by omega), sw_un (by omega)]; exact hh j hj tj
    · have D : sw_Ed x k lo hi E (sw_up (sw_up E (sw_ei x (2 * k + 1)) hi) (sw_ei x (2 * k)) lo) := by
        rw [sw_ei_hi, sw_ei_lo]
        refine ⟨sw_us, ?_, fun j j1 j2 => ?_⟩
        · rw [sw_un (by omega), sw_us]
        · rw [sw_un j1, sw_un j2]
      have L := sw_Ed_LH (T := T) hx D hl hh
      exact sw_mvE hx (by omega) tl (by omega) hE1 hc h1 L (fun O2 A2 P2 h2 => H _ O2 A2 P2 D (sw_up_le hE1 (by omega)) h2 L)
  · have hE1 := sw_up_le (k := sw_ei x (2 * k)) hE (show lo ≤ 1000 by omega)
    refine sw_mvE hx (by omega) tl (by omega) hE hc h ?_ (fun O1 A1 P1 h1 => ?_)
    · intro j hj tj
      rw [sw_ei_lo]
      by_cases e : j = k
      · rw [e, sw_us, sw_un (by omega)]; omega
      · rw [sw_un (by omega), sw_un (by omega)]; exact hh j hj tj
    · have D : sw_Ed x k lo hi E (sw_up (sw_up E (sw_ei x (2 * k)) lo) (sw_ei x (2 * k + 1)) hi) := by
        rw [sw_ei_hi, sw_ei_lo]
        refine ⟨?_, sw_us, fun j j1 j2 => ?_⟩
        · rw [sw_un (by omega), sw_us]
        · rw [sw_un j2, sw_un j1]
      have L := sw_Ed_LH (T := T) hx D hl hh
      exact sw_mvE hx (by omega) th hhi hE1 hc h1 L (fun O2 A2 P2 h2 => H _ O2 A2 P2 D (sw_up_le hE1 hhi) h2 L)
end
end
section
/-! ===== the object's invariant; enter, leave ===== -/
def sw_Iv (T c : Nat) (E O A : Nat → Nat) : Prop :=
  T < 1024 ∧ c = 2 * sw_cn T.testBit 10 ∧ (∀ j, E j ≤ 1000) ∧ ∀ x, x < 2 → (∃ P, sw_Md T c x 20 E O A O A P) ∧ sw_LH T x E
/-- all but k lie inside -/
def sw_Sm (T k : Nat) (E : Nat → Nat) : Prop := ∀ j, j < 10 → j ≠ k → T.testBit j = true → ∀ x, x < 2 → E (j * 4 + 2 * x + 1) ≤ 99
def sw_In (T c : Nat) (E O A : Nat → Nat) : Prop := sw_Iv T c E O A ∧ sw_Sm T 10 E
theorem sw_Iv_c {T c : Nat} {E O A : Nat → Nat} (h : sw_Iv T c E O A) : c ≤ 20 := by
  have := sw_cn_le T.testBit 10
  have := h.2.1
  omega
theorem sw_Md_tr {T c y : Nat} {E E' O A O' A' P : Nat → Nat} (h : sw_Md T c y 20 E O A O A P) (hc : c ≤ 20) (hO : ∀ j, j < 20 → O' (y * 20 + j) = O (y * 20 + j)) (hA : ∀ a b, a < 10 → b < 10 → (A' (y * 10 + a)).testBit b = (A (y * 10 + a)).testBit b)
    (hE : ∀ e, e < 20 → E' (sw_ei y e) = E (sw_ei y e)) (bO : ∀ j, O' j < 20) (bA : ∀ j, A' j < 1024) : sw_Md T c y 20 E' O' A' O' A' P := by
  obtain ⟨h1, h2, h3, h4, h5, h6, h7, h8⟩ := h
  refine ⟨⟨fun i hi => ?_, fun e he te => ?_⟩, h2, fun a b ha hb => ?_, fun e f he hf e1 f1 te tf hp => ?_, bO, bA, fun _ _ _ _ _ => rfl, fun _ _ _ _ _ _ _ => rfl⟩
  · show O' (y * 20 + i) < 20 ∧ T.testBit (O' (y * 20 + i) / 2) = true ∧ P (O' (y * 20 + i)) = i
    rw [hO i (by omega)]
    exact h1.1 i hi
  · have := h1.2 e he te
    refine ⟨this.1, ?_⟩
    show O' (y * 20 + P e) = e
    rw [hO (P e) (by omega)]
    exact this.2
  · show (A' (y * 10 + a)).testBit b = true ↔ _
    rw [hA a b ha hb]
    exact h3 a b ha hb
  · have := h4 e f he hf e1 f1 te tf hp
    unfold sw_ky at this ⊢
    rw [hE e he, hE f hf]
    exact this
theorem sw_mvI {post : St1 → Prop} {T c x k lo hi : Nat} {E O A : Nat → Nat} (hx : x < 2) (hk : k < 10) (tk : T.testBit k = true) (hl : lo ≤ hi) (hhi : hi ≤ 1000) (h : sw_Iv T c E O A)
    (H : ∀ E' O' A', sw_Ed x k lo hi E E' → sw_Iv T c E' O' A' → post (nI T, nI c, sw_lf E', sw_lf O', sw_lf A')) :
    wpX_moveSpan post (nI T, nI c, sw_lf E, sw_lf O, sw_lf A) (nI x) (nI k) (nI lo) (nI hi) := by
  have hc := sw_Iv_c h
  obtain ⟨h1, h2, h3, h4⟩ := h
  obtain ⟨⟨P, hP⟩, hL⟩ := h4 x hx
  refine sw_mvS hx hk tk hl hhi h3 hc hP hL (fun E' O' A' P' hD hE' hM hL' => H E' O' A' hD ⟨h1, h2, hE', fun y hy => ?_⟩)
  by_cases e : y = x
  · subst e
    obtain ⟨m1, m2, m3, m4, m5, m6, m7, m8⟩ := hM
    exact ⟨⟨P', m1, m2, m3, m4, m5, m6, fun _ _ _ _ _ => rfl, fun _ _ _ _ _ _ _ => rfl⟩, hL'⟩
  · obtain ⟨⟨Q, hQ⟩, hLy⟩ := h4 y hy
    obtain ⟨m1, m2, m3, m4, m5, m6, m7, m8⟩ := hM
    refine ⟨⟨Q, sw_Md_tr hQ hc (fun j hj => m7 y j hy e hj) (fun a b ha hb => m8 y a b hy e ha hb) (fun f hf => ?_) m5 m6⟩, fun j hj tj => ?_⟩
    · refine hD.2.2 _ ?_ ?_ <;> unfold sw_ei <;> omega
    · rw [hD.2.2 _ (by omega) (by omega), hD.2.2 _ (by omega) (by omega)]
      exact hLy j hj tj
theorem sw_Ed_Sm {T x k lo hi : Nat} {E E' : Nat → Nat} (hx : x < 2) (h : sw_Sm T k E) (hD : sw_Ed x k lo hi E E') : sw_Sm T k E' := by
  intro j hj hjk tj y hy
  rw [hD.2.2 _ (by omega) (by omega)]
  exact h j hj hjk tj y hy
theorem sw_tor {T k : Nat} (j : Nat) : (T ||| 2 ^ k).testBit j = true ↔ (T.testBit j = true ∨ j = k) := by
  rw [sw_sb_b]
  by_cases e : j = k
  · simp [e]
  · have e' : ¬ k = j := fun z => e z.symm
    simp [e, e']
theorem sw_tcl {T k : Nat} (hT : T < 1024) (j : Nat) : (sw_cl T (2 ^ k)).testBit j = true ↔ (T.testBit j = true ∧ j ≠ k) := by
  rw [sw_cb_b hT]
  by_cases e : j = k
  · simp [e]
  · have e' : ¬ k = j := fun z => e z.symm
    simp [e, e']
theorem sw_v99 {T x e : Nat} {E : Nat → Nat} (hx : x < 2) (he : e < 20) (te : T.testBit (e / 2) = true) (hh : sw_LH T x E) (hs : ∀ j, j = e / 2 → E (j * 4 + 2 * x + 1) ≤ 99) : sw_ky E x e ≤ 199 := by
  have h1 := hh (e / 2) (by omega) te
  have h2 := hs (e / 2) rfl
  unfold sw_ky
  rcases Nat.mod_two_eq_zero_or_one e with g | g
  · rw [show sw_ei x e = e / 2 * 4 + 2 * x by unfold sw_ei; omega]
    omega
  · rw [show sw_ei x e = e / 2 * 4 + 2 * x + 1 by unfold sw_ei; omega]
    omega
def sw_nP (P : Nat → Nat) (c k : Nat) : Nat → Nat := fun e => if e = 2 * k then c else if e = 2 * k + 1 then c + 1 else P e
theorem sw_nP_l (P : Nat → Nat) (c k : Nat) : sw_nP P c k (2 * k) = c := if_pos rfl
theorem sw_nP_h (P : Nat → Nat) (c k : Nat) : sw_nP P c k (2 * k + 1) = c + 1 := by
  unfold sw_nP
  rw [if_neg (by omega), if_pos rfl]
theorem sw_nP_o {P : Nat → Nat} {c k e : Nat} (h : e / 2 ≠ k) : sw_nP P c k e = P e := by
  unfold sw_nP
  rw [if_neg (by omega), if_neg (by omega)]
/-- a box enters along x -/
theorem sw_en {T c x k : Nat} {E E' O O' A P : Nat → Nat} (h : sw_Md T c x 20 E O A O A P) (hx : x < 2) (hk : k < 10) (tk : T.testBit k = false) (hO : ∀ i, i < c → O' (x * 20 + i) = O (x * 20 + i)) (o1 : O' (x * 20 + c) = 2 * k) (o2 : O' (x * 20 + (c + 1)) = 2 * k + 1)
    (hE : ∀ e, e < 20 → e / 2 ≠ k → E' (sw_ei x e) = E (sw_ei x e)) (e1 : E' (k * 4 + 2 * x) = 1000) (e2 : E' (k * 4 + 2 * x + 1) = 1000) (hs : sw_Sm T 10 E) (hl : sw_LH T x E) (bO : ∀ j, O' j < 20) :
    sw_Md (T ||| 2 ^ k) (c + 2) x 20 E' O' A O' A (sw_nP P c k) := by
  obtain ⟨h1, h2, h3, h4, h5, h6, h7, h8⟩ := h
  have ko : ∀ j, T.testBit j = true → j ≠ k := fun j tj z => by rw [z, tk] at tj; exact absurd tj (by decide)
  have pl : ∀ e, e < 20 → T.testBit (e / 2) = true → sw_nP P c k e = P e ∧ P e < c := fun e he te => ⟨sw_nP_o (ko _ te), (h1.2 e he te).1⟩
  have kl : sw_ky E' x (2 * k) = 2000 := by
    unfold sw_ky
    rw [sw_ei_lo, e1]
    omega
  have kh : sw_ky E' x (2 * k + 1) = 2001 := by
    unfold sw_ky
    rw [sw_ei_hi, e2]
    omega
  have ks : ∀ e, e < 20 → T.testBit (e / 2) = true → sw_ky E' x e = sw_ky E x e ∧ sw_ky E x e ≤ 199 := by
    intro e he te
    refine ⟨?_, sw_v99 hx he te hl (fun j ej => hs j (by omega) (by omega) (by rw [ej]; exact te) x hx)⟩
    unfold sw_ky
    rw [hE e he (ko _ te)]
  refine ⟨⟨fun i hi => ?_, fun e he te => ?_⟩, fun j hj tj => ?_, fun a b ha hb => ?_, fun e f he hf _ _ te tf hp => ?_, bO, h6, fun _ _ _ _ _ => rfl, fun _ _ _ _ _ _ _ => rfl⟩
  · show O' (x * 20 + i) < 20 ∧ (T ||| 2 ^ k).testBit (O' (x * 20 + i) / 2) = true ∧ sw_nP P c k (O' (x * 20 + i)) = i
    rcases Nat.lt_or_ge i c with g | g
    · rw [hO i g]
      have q := h1.1 i g
      exact ⟨q.1, (sw_tor _).mpr (Or.inl q.2.1), (sw_nP_o (ko _ q.2.1)).trans q.2.2⟩
    · have g2 : i = c ∨ i = c + 1 := by omega
      rcases g2 with g2 | g2
      · rw [g2, o1]
        exact ⟨by omega, (sw_tor _).mpr (Or.inr (by omega)), sw_nP_l P c k⟩
      · rw [g2, o2]
        exact ⟨by omega, (sw_tor _).mpr (Or.inr (by omega)), sw_nP_h P c k⟩
  · rcases (sw_tor _).mp te with g | g
    · have q := h1.2 e he g
      rw [(pl e he g).1]
      refine ⟨by omega, ?_⟩
      show O' (x * 20 + P e) = e
      rw [hO _ q.1]
      exact q.2
    · have g2 : e = 2 * k ∨ e = 2 * k + 1 := by omega
      rcases g2 with g2 | g2
      · rw [g2, sw_nP_l]
        exact ⟨by omega, o1⟩
      · rw [g2, sw_nP_h]
        exact ⟨by omega, o2⟩
  · rcases (sw_tor _).mp tj with g | g
    · rw [(pl (2 * j) (by omega) (by rw [show 2 * j / 2 = j by omega]; exact g)).1, (pl (2 * j + 1) (by omega) (by rw [show (2 * j + 1) / 2 = j by omega]; exact g)).1]
      exact h2 j hj g
    · rw [g, sw_nP_l, sw_nP_h]
      omega
  · rw [h3 a b ha hb]
    constructor
    · intro z
      obtain ⟨z1, z2, z3, z4, z5⟩ := z
      rw [(pl (2 * a) (by omega) (by rw [show 2 * a / 2 = a by omega]; exact z2)).1, (pl (2 * a + 1) (by omega) (by rw [show (2 * a + 1) / 2 = a by omega]; exact z2)).1, (pl (2 * b) (by omega) (by rw [show 2 * b / 2 = b by omega]; exact z3)).1, (pl (2 * b + 1) (by omega) (by rw [show (2 * b + 1) / 2 = b by omega]; exact z3)).1]
      exact ⟨z1, (sw_tor _).mpr (Or.inl z2), (sw_tor _).mpr (Or.inl z3), z4, z5⟩
    · intro z
      obtain ⟨z1, z2, z3, z4, z5⟩ := z
      rcases (sw_tor _).mp z2 with g | g
      · have qa := pl (2 * a) (by omega) (by rw [show 2 * a / 2 = a by omega]; exact g)
        have qa2 := pl (2 * a + 1) (by omega) (by rw [show (2 * a + 1) / 2 = a by omega]; exact g)
        rcases (sw_tor _).mp z3 with g2 | g2
        · have qb := pl (2 * b) (by omega) (by rw [show 2 * b / 2 = b by omega]; exact g2)
          have qb2 := pl (2 * b + 1) (by omega) (by rw [show (2 * b + 1) / 2 = b by omega]; exact g2)
          exact ⟨z1, g, g2, by omega, by omega⟩
        · rw [g2, sw_nP_l] at z5
          omega
      · rw [g, sw_nP_l] at z4
        rcases (sw_tor _).mp z3 with g2 | g2
        · have qb2 := pl (2 * b + 1) (by omega) (by rw [show (2 * b + 1) / 2 = b by omega]; exact g2)
          omega
        · omega
  · rcases (sw_tor _).mp te with g | g
    · have q := pl e he g
      have qk := ks e he g
      rcases (sw_tor _).mp tf with g2 | g2
      · have q2 := pl f hf g2
        have qk2 := ks f hf g2
        rw [qk.1, qk2.1]
        exact h4 e f he hf (by omega) (by omega) g g2 (by omega)
      · have g3 : f = 2 * k ∨ f = 2 * k + 1 := by omega
        rcases g3 with g3 | g3
        · rw [g3, kl]; omega
        · rw [g3, kh]; omega
    · have g4 : e = 2 * k ∨ e = 2 * k + 1 := by omega
      rcases (sw_tor _).mp tf with g2 | g2
      · have q2 := pl f hf g2
        rcases g4 with g4 | g4
        · rw [g4, sw_nP_l] at hp; omega
        · rw [g4, sw_nP_h] at hp; omega
      · have g3 : f = 2 * k ∨ f = 2 * k + 1 := by omega
        rcases g4 with g4 | g4
        · rcases g3 with g3 | g3
          · rw [g3, g4]; exact Nat.le_refl _
          · rw [g3, g4, kl, kh]; omega
        · rcases g3 with g3 | g3
          · rw [g3, g4, sw_nP_l, sw_nP_h] at hp; omega
          · rw [g3, g4]; exact Nat.le_refl _
/-- a box leaves along x -/
theorem sw_lv {T c x k : Nat} {E O A P : Nat → Nat} (hT : T < 1024) (h : sw_Md T c x 20 E O A O A P) (hx : x < 2) (hk : k < 10) (tk : T.testBit k = true) (e1 : E (k * 4 + 2 * x) = 1000) (e2 : E (k * 4 + 2 * x + 1) = 1000) (hs : sw_Sm T k E) (hl : sw_LH T x E) :
    sw_Md (sw_cl T (2 ^ k)) (c - 2) x 20 E O A O A P := by
  obtain ⟨h1, h2, h3, h4, h5, h6, h7, h8⟩ := h
  have tl : T.testBit (2 * k / 2) = true := by rw [show 2 * k / 2 = k by omega]; exact tk
  have th : T.testBit ((2 * k + 1) / 2) = true := by rw [show (2 * k + 1) / 2 = k by omega]; exact tk
  have kl : sw_ky E x (2 * k) = 2000 := by
    unfold sw_ky
    rw [sw_ei_lo, e1]
    omega
  have lh := h2 k hk tk
  have pc := h1.2 (2 * k + 1) (by omega) th
  have pc0 := h1.2 (2 * k) (by omega) tl
  have below : ∀ f, f < 20 → T.testBit (f / 2) = true → f / 2 ≠ k → P f < P (2 * k) := by
    intro f hf tf fk
    have q : sw_ky E x f ≤ 199 := sw_v99 hx hf tf hl (fun j ej => hs j (by omega) (by omega) (by rw [ej]; exact tf) x hx)
    have n1 : P f ≠ P (2 * k) := fun z => fk (by rw [sw_Pm_inj h1 hf (by omega) tf tl z]; omega)
    have n2 : ¬ P (2 * k) < P f := fun z => by
      have := h4 (2 * k) f (by omega) hf (by omega) (by omega) tl tf z
      omega
    omega
  have q1 := h1.1 (c - 1) (by omega)
  have q2 := h1.1 (c - 2) (by omega)
  have pe : P (2 * k) = c - 2 ∧ P (2 * k + 1) = c - 1 := by
    rcases Nat.lt_or_ge (P (2 * k)) (c - 2) with g | g
    · exfalso
      dsimp only at q1 q2
      have r1 : O (x * 20 + (c - 1)) / 2 = k := by
        rcases Nat.decEq (O (x * 20 + (c - 1)) / 2) k with z | z
        · have := below _ q1.1 q1.2.1 z
          rw [q1.2.2] at this
          omega
        · exact z
      have r2 : O (x * 20 + (c - 2)) / 2 = k := by
        rcases Nat.decEq (O (x * 20 + (c - 2)) / 2) k with z | z
        · have := below _ q2.1 q2.2.1 z
          rw [q2.2.2] at this
          omega
        · exact z
      have s1 : O (x * 20 + (c - 1)) = 2 * k + 1 := by
        have g2 : O (x * 20 + (c - 1)) = 2 * k ∨ O (x * 20 + (c - 1)) = 2 * k + 1 := by omega
        rcases g2 with g2 | g2
        · have := q1.2.2
          rw [g2] at this
          omega
        · exact g2
      have s2 : O (x * 20 + (c - 2)) = 2 * k + 1 := by
        have g2 : O (x * 20 + (c - 2)) = 2 * k ∨ O (x * 20 + (c - 2)) = 2 * k + 1 := by omega
        rcases g2 with g2 | g2
        · have := q2.2.2
          rw [g2] at this
          omega
        · exact g2
      have t1 := q1.2.2
      have t2 := q2.2.2
      rw [s1] at t1
      rw [s2] at t2
      omega
    · omega
  refine ⟨⟨fun i hi => ?_, fun e he te => ?_⟩, fun j hj tj => ?_, fun a b ha hb => ?_, fun e f he hf e1 f1 te tf hp => ?_, h5, h6, fun _ _ _ _ _ => rfl, fun _ _ _ _ _ _ _ => rfl⟩
  · have q := h1.1 i (by omega)
    refine ⟨q.1, (sw_tcl hT _).mpr ⟨q.2.1, fun z => ?_⟩, q.2.2⟩
    have g2 : (fun i => O (x * 20 + i)) i = 2 * k ∨ (fun i => O (x * 20 + i)) i = 2 * k + 1 := by omega
    have q3 := q.2.2
    rcases g2 with g2 | g2
    · rw [g2] at q3; omega
    · rw [g2] at q3; omega
  · have te' := (sw_tcl hT _).mp te
    have q := h1.2 e he te'.1
    have := below e he te'.1 te'.2
    exact ⟨by omega, q.2⟩
  · exact h2 j hj ((sw_tcl hT _).mp tj).1
  · rw [h3 a b ha hb]
    constructor
    · intro z
      obtain ⟨z1, z2, z3, z4, z5⟩ := z
      refine ⟨z1, (sw_tcl hT _).mpr ⟨z2, fun y => ?_⟩, (sw_tcl hT _).mpr ⟨z3, fun y => ?_⟩, z4, z5⟩
      · have := below (2 * b + 1) (by omega) (by rw [show (2 * b + 1) / 2 = b by omega]; exact z3) (by omega)
        rw [y] at z4
        omega
      · have := below (2 * a + 1) (by omega) (by rw [show (2 * a + 1) / 2 = a by omega]; exact z2) (by omega)
        rw [y] at z5
        omega
    · intro z
      obtain ⟨z1, z2, z3, z4, z5⟩ := z
      exact ⟨z1, ((sw_tcl hT _).mp z2).1, ((sw_tcl hT _).mp z3).1, z4, z5⟩
  · exact h4 e f he hf e1 f1 ((sw_tcl hT _).mp te).1 ((sw_tcl hT _).mp tf).1 hp
end
section
/-! ===== enter, leave, put, move, remove ===== -/
section
variable {pr : Int32 → Prop} {th cn : Int32} {a1 a2 a3 : Nat → Int32} {T c k : Nat} {E O A : Nat → Nat}
theorem sw_isT (hT : T < 1024) (hk : k < 10) (h1 : T.testBit k = true → pr 1) (h0 : T.testBit k = false → pr 0) : wpX_isThere pr (nI T, cn, a1, a2, a3) (nI k) := by
  unfold wpX_isThere
  dsimp only
  rw [sw_bit (by omega) (by omega)]
  refine br_f (nI_pos (by omega)) (pk_le 10 k (fun z => absurd z (by omega)) (fun _ => ?_))
  cases e : T.testBit k with
  | true => exact br_f (by decide) (h1 e)
  | false => exact br_t (by decide) (h0 e)
theorem sw_ovl (hk : k < 10) (h : pr (nI (A k &&& A (10 + k)))) : wpX_overlapping pr (th, cn, a1, a2, sw_lf A) (nI k) := by
  have ix : 10 + nI k = nI (10 + k) := nI_add 10 k
  unfold wpX_overlapping
  dsimp only
  rw [ix, nI_clamp (show k < 2 ^ 31 by omega), nI_clamp (show 10 + k < 2 ^ 31 by omega), sw_lfa, sw_lfa, sw_nand]
  exact ⟨vp_in_nI (by omega) (by omega), vp_in_nI (by omega) (by omega), h⟩
theorem sw_onesA {x : Int32} (h : ∀ r, pr r) : wpX_ones pr () x := by
  unfold wpX_ones
  refine pk_loop (fun n i s => wX_ones_4 pr x n s (nI i)) (fun _ _ => True) 10 0 (0 : Int32) (by omega) trivial ?_ ?_
  · intro n s _
    exact pk_le 10 10 (fun _ => h s) (fun z => absurd z (by omega))
  · intro n i s hi _ hw
    exact pk_le 10 i (fun z => absurd z (by omega)) (fun _ => nm_e (nm_r (nI_1 i) (hw _ trivial)))
theorem sw_fits {lo hi r : Nat} (hl : lo ≤ 1000) (hh : hi ≤ 1000) (hr : r < 100) (h0 : pr 0) (h1 : 50 ≤ lo + r → hi + r < 150 → pr 1) : wpX_fits pr () (nI lo) (nI hi) (nI r - 50) := by
  have t1 : (nI r - 50).toInt = (r : Int) - 50 := pk_sub_toInt (a := r) (b := 50) (by omega) (by omega)
  have t2 : (-nI lo).toInt = -(lo : Int) := sb_negT (by omega)
  have t3 : (100 - nI hi).toInt = (100 : Int) - hi := pk_sub_toInt (a := 100) (b := hi) (by omega) (by omega)
  unfold wpX_fits
  refine br_c (fun _ => h0) (fun g => br_c (fun _ => h0) (fun g2 => ?_))
  rw [Int32.lt_iff_toInt_lt, t1, t2] at g
  rw [Int32.le_iff_toInt_le, t1, t3] at g2
  exact h1 (by omega) (by omega)
theorem sw_addd {lo r : Nat} (h : 50 ≤ lo + r) : nI lo + (nI r - 50) = nI (lo + r - 50) := by
  rw [← pk_sub h, ← nI_add]
  show nI lo + (nI r - nI 50) = _
  rw [Int32.sub_eq_add_neg, Int32.sub_eq_add_neg, Int32.add_assoc]
end
section
variable {post : St1 → Prop} {T c k : Nat} {E O A : Nat → Nat}
def sw_nE (E : Nat → Nat) (x k : Nat) : Nat → Nat := sw_up (sw_up E (k * 4 + 2 * x) 1000) (k * 4 + 2 * x + 1) 1000
def sw_nO (O : Nat → Nat) (x c k : Nat) : Nat → Nat := sw_up (sw_up O (x * 20 + c) (2 * k)) (x * 20 + c + 1) (2 * k + 1)
theorem sw_ent1 {n x : Nat} {th : Int32} {a3 : Nat → Int32} (hx : x < 2) (hk : k < 10) (hc : c + 2 ≤ 20) (H : wX_enter_14 post (nI k) th (nI c) n (nI (x + 1)) (sw_lf (sw_nE E x k)) (sw_lf (sw_nO O x c k)) a3) : wX_enter_14 post (nI k) th (nI c) (n + 1) (nI x) (sw_lf E) (sw_lf O) a3 := by
  have ix : nI k * 4 + 2 * nI x = nI (k * 4 + 2 * x) := by
    rw [show (4 : Int32) = nI 4 from rfl, show (2 : Int32) = nI 2 from rfl, pk_mul, pk_mul, nI_add]
  have ik : 2 * nI k = nI (2 * k) := by
    rw [show (2 : Int32) = nI 2 from rfl, pk_mul]
  unfold wX_enter_14
  rw [ix, ik, sw_i20, nI_1 (k * 4 + 2 * x), nI_1 (2 * k), nI_1 (x * 20 + c), nI_1 x, nI_clamp (show k * 4 + 2 * x < 2 ^ 31 by omega), nI_clamp (show k * 4 + 2 * x + 1 < 2 ^ 31 by omega), nI_clamp (show x * 20 + c < 2 ^ 31 by omega), nI_clamp (show x * 20 + c + 1 < 2 ^ 31 by omega), sw_s8 (2 * k) (by omega), sw_s8 (2 * k + 1) (by omega)]
  refine pk_le 2 x (fun z => absurd z (by omega)) (fun _ => ⟨vp_in_nI (by omega) (by omega), nm_r (sw_upd E _ 1000) ⟨vp_in_nI (by omega) (by omega), nm_r (sw_upd _ _ 1000) ⟨vp_in_nI (by omega) (by omega), nm_r (sw_upd _ _ _) ⟨vp_in_nI (by omega) (by omega), nm_r (sw_upd _ _ _) (nm_e H)⟩⟩⟩⟩)
/-- what enter leaves: the cells of k along both axes, and the two free places -/
def sw_En (c k : Nat) (E E' O O' : Nat → Nat) : Prop := (∀ j, j / 4 ≠ k → E' j = E j) ∧ (∀ j, j / 4 = k → E' j = 1000) ∧ (∀ x i, x < 2 → i < c → O' (x * 20 + i) = O (x * 20 + i)) ∧ (∀ x, x < 2 → O' (x * 20 + c) = 2 * k ∧ O' (x * 20 + (c + 1)) = 2 * k + 1)
theorem sw_nE_i {x : Nat} {j : Nat} (h : j = k * 4 + 2 * x ∨ j = k * 4 + 2 * x + 1) : sw_nE E x k j = 1000 := by
  unfold sw_nE
  by_cases e : j = k * 4 + 2 * x + 1
  · rw [e, sw_us]
  · rw [sw_un e]
    have e2 : j = k * 4 + 2 * x := by omega
    rw [e2, sw_us]
theorem sw_nE_o {x : Nat} {j : Nat} (h : j ≠ k * 4 + 2 * x) (h2 : j ≠ k * 4 + 2 * x + 1) : sw_nE E x k j = E j := by
  unfold sw_nE
  rw [sw_un h2, sw_un h]
theorem sw_nO_1 (O : Nat → Nat) (x c k : Nat) : sw_nO O x c k (x * 20 + c) = 2 * k := by
  unfold sw_nO
  rw [sw_un (by omega), sw_us]
theorem sw_nO_2 (O : Nat → Nat) (x c k : Nat) : sw_nO O x c k (x * 20 + (c + 1)) = 2 * k + 1 := by
  unfold sw_nO
  exact sw_us
theorem sw_nO_o {x : Nat} {j : Nat} (h : j ≠ x * 20 + c) (h2 : j ≠ x * 20 + c + 1) : sw_nO O x c k j = O j := by
  unfold sw_nO
  rw [sw_un h2, sw_un h]
theorem sw_En_ok (hk : k < 10) (hc : c + 2 ≤ 20) : sw_En c k E (sw_nE (sw_nE E 0 k) 1 k) O (sw_nO (sw_nO O 0 c k) 1 c k) := by
  refine ⟨fun j hj => ?_, fun j hj => ?_, fun x i hx hi => ?_, fun x hx => ?_⟩
  · rw [sw_nE_o (by omega) (by omega), sw_nE_o (by omega) (by omega)]
  · by_cases e : j = k * 4 + 2 * 1 ∨ j = k * 4 + 2 * 1 + 1
    · exact sw_nE_i e
    · rw [sw_nE_o (by omega) (by omega)]
      exact sw_nE_i (by omega)
  · rw [sw_nO_o (by omega) (by omega), sw_nO_o (by omega) (by omega)]
  · have e : x = 0 ∨ x = 1 := by omega
    rcases e with e | e
    · subst e
      have a1 : sw_nO (sw_nO O 0 c k) 1 c k (0 * 20 + c) = sw_nO O 0 c k (0 * 20 + c) := sw_nO_o (by omega) (by omega)
      have a2 : sw_nO (sw_nO O 0 c k) 1 c k (0 * 20 + (c + 1)) = sw_nO O 0 c k (0 * 20 + (c + 1)) := sw_nO_o (by omega) (by omega)
      rw [a1, a2]
      exact ⟨sw_nO_1 O 0 c k, sw_nO_2 O 0 c k⟩
    · subst e
      exact ⟨sw_nO_1 _ 1 c k, sw_nO_2 _ 1 c k⟩
theorem sw_cn_in {T k : Nat} (hT : T < 1024) (hk : k < 10) (tk : T.testBit k = false) : sw_cn (T ||| 2 ^ k).testBit 10 = sw_cn T.testBit 10 + 1 := by
  refine sw_cn_1 tk ((sw_tor k).mpr (Or.inr rfl)) 10 hk (fun j _ hjk => ?_)
  rw [sw_sb_b]
  have e' : ¬ k = j := fun z => hjk z.symm
  simp [e']
theorem sw_cn_out {T k : Nat} (hT : T < 1024) (hk : k < 10) (tk : T.testBit k = true) : sw_cn T.testBit 10 = sw_cn (sw_cl T (2 ^ k)).testBit 10 + 1 := by
  refine sw_cn_1 ?_ tk 10 hk (fun j _ hjk => ?_)
  · rw [sw_cb_b hT]; simp
  · rw [sw_cb_b hT]
    have e' : ¬ k = j := fun z => hjk z.symm
    simp [e']
theorem sw_enI {E' O' : Nat → Nat} (h : sw_In T c E O A) (hk : k < 10) (tk : T.testBit k = false) (hN : sw_En c k E E' O O') (hE' : ∀ j, E' j ≤ 1000) (hO' : ∀ j, O' j < 20) : sw_Iv (T ||| 2 ^ k) (c + 2) E' O' A ∧ sw_Sm (T ||| 2 ^ k) k E' := by
  obtain ⟨⟨h1, h2, h3, h4⟩, hs⟩ := h
  refine ⟨⟨sw_or_lt h1 (sw_p_lt hk), ?_, hE', fun x hx => ?_⟩, fun j hj hjk tj x hx => ?_⟩
  · rw [sw_cn_in h1 hk tk]
    omega
  · obtain ⟨⟨P, hP⟩, hL⟩ := h4 x hx
    refine ⟨⟨sw_nP P c k, sw_en hP hx hk tk (fun i hi => hN.2.2.1 x i hx hi) (hN.2.2.2 x hx).1 (hN.2.2.2 x hx).2 (fun e he hek => hN.1 _ ?_) (hN.2.1 _ (by omega)) (hN.2.1 _ (by omega)) hs hL hO'⟩, fun j hj tj => ?_⟩
    · unfold sw_ei
      omega
    · rcases (sw_tor j).mp tj with g | g
      · by_cases e : j = k
        · rw [hN.2.1 _ (by omega), hN.2.1 _ (by omega)]
          exact Nat.le_refl _
        · rw [hN.1 _ (by omega), hN.1 _ (by omega)]
          exact hL j hj g
      · rw [hN.2.1 _ (by omega), hN.2.1 _ (by omega)]
        exact Nat.le_refl _
  · rw [hN.1 _ (by omega)]
    rcases (sw_tor j).mp tj with g | g
    · exact hs j hj (by omega) g x hx
    · exact absurd g hjk
theorem sw_enter (h : sw_In T c E O A) (hk : k < 10) (tk : T.testBit k = false) (H : ∀ E' O', sw_Iv (T ||| 2 ^ k) (c + 2) E' O' A → sw_Sm (T ||| 2 ^ k) k E' → post (nI (T ||| 2 ^ k), nI (c + 2), sw_lf E', sw_lf O', sw_lf A)) : wpX_enter post (nI T, nI c, sw_lf E, sw_lf O, sw_lf A) (nI k) := by
  have hc : c + 2 ≤ 20 := by
    have h1 := h.1.2.1
    have h2 := sw_cn_in h.1.1 hk tk
    have h3 := sw_cn_le (T ||| 2 ^ k).testBit 10
    omega
  have hO : ∀ j, O j < 20 := by
    obtain ⟨⟨P, hP⟩, _⟩ := h.1.2.2.2 0 (by omega)
    exact hP.2.2.2.2.1
  have R := sw_enI h hk tk (sw_En_ok (E := E) (O := O) hk hc) (sw_up_le (sw_up_le (sw_up_le (sw_up_le h.1.2.2.1 (by omega)) (by omega)) (by omega)) (by omega)) (sw_up_lt (sw_up_lt (sw_up_lt (sw_up_lt hO (by omega)) (by omega)) (by omega)) (by omega))
  unfold wpX_enter
  dsimp only
  rw [sw_one (by omega), sw_nor]
  refine nm_e ⟨3, sw_ent1 (x := 0) (by omega) hk hc (sw_ent1 (x := 1) (by omega) hk hc ?_)⟩
  exact br_t (by decide) (nm_r (nI_add c 2) (H _ _ R.1 R.2))
theorem sw_leave (h : sw_In T c E O A) (hk : k < 10) (tk : T.testBit k = true) (H : ∀ E' O' A', sw_In (sw_cl T (2 ^ k)) (c - 2) E' O' A' → post (nI (sw_cl T (2 ^ k)), nI (c - 2), sw_lf E', sw_lf O', sw_lf A')) : wpX_leave post (nI T, nI c, sw_lf E, sw_lf O, sw_lf A) (nI k) := by
  have hs0 : sw_Sm T k E := fun j hj hjk tj x hx => h.2 j hj (by omega) tj x hx
  have hT := h.1.1
  have hcn := sw_cn_out hT hk tk
  unfold wpX_leave
  dsimp only
  refine ⟨3, br_f (by decide) (sw_mvI (x := 0) (lo := 1000) (hi := 1000) (by omega) hk tk (by omega) (by omega) h.1 (fun E1 O1 A1 D1 I1 => nm_e (br_f (by decide) (sw_mvI (x := 1) (lo := 1000) (hi := 1000) (by omega) hk tk (by omega) (by omega) I1 (fun E2 O2 A2 D2 I2 => nm_e (br_t (by decide) ?_))))))⟩
  have hs2 : sw_Sm T k E2 := sw_Ed_Sm (by omega) (sw_Ed_Sm (by omega) hs0 D1) D2
  have c0 : E2 (k * 4 + 2 * 0) = 1000 ∧ E2 (k * 4 + 2 * 0 + 1) = 1000 := by
    rw [D2.2.2 _ (by omega) (by omega), D2.2.2 _ (by omega) (by omega)]
    exact ⟨D1.1, D1.2.1⟩
  have c1 : E2 (k * 4 + 2 * 1) = 1000 ∧ E2 (k * 4 + 2 * 1 + 1) = 1000 := ⟨D2.1, D2.2.1⟩
  have cx : ∀ x, x < 2 → E2 (k * 4 + 2 * x) = 1000 ∧ E2 (k * 4 + 2 * x + 1) = 1000 := by
    intro x hx
    have e : x = 0 ∨ x = 1 := by omega
    rcases e with e | e
    · subst e; exact c0
    · subst e; exact c1
  obtain ⟨i1, i2, i3, i4⟩ := I2
  rw [sw_one (by omega), sw_ncl]
  refine nm_r (pk_sub (a := c) (b := 2) (by omega)) (nm_e (H E2 O2 A2 ⟨⟨sw_cl_lt hT, by omega, i3, fun x hx => ?_⟩, fun j hj _ tj x hx => ?_⟩))
  · obtain ⟨⟨P, hP⟩, hL⟩ := i4 x hx
    exact ⟨⟨P, sw_lv hT hP hx hk tk (cx x hx).1 (cx x hx).2 hs2 hL⟩, fun j hj tj => hL j hj ((sw_tcl hT _).mp tj).1⟩
  · have tj' := (sw_tcl hT _).mp tj
    exact hs2 j hj tj'.2 tj'.1 x hx
end
section
variable {post : Int32 → St1 → Prop} {T c k : Nat} {E O A : Nat → Nat}
theorem sw_remove (h : sw_In T c E O A) (hk : k < 10) (H : ∀ r T' c' E' O' A', sw_In T' c' E' O' A' → post r (nI T', nI c', sw_lf E', sw_lf O', sw_lf A')) : wpX_remove post (nI T, nI c, sw_lf E, sw_lf O, sw_lf A) (nI k) := by
  unfold wpX_remove
  dsimp only
  refine sw_isT h.1.1 hk (fun tk => br_f (by decide) (sw_ovl hk (sw_leave h hk tk (fun E' O' A' h' => sw_onesA (fun r => H r _ _ _ _ _ h'))))) (fun _ => br_t rfl (H _ _ _ _ _ _ h))
/-- two spans inside: all lies inside -/
theorem sw_inside {E1 E2 : Nat → Nat} {x0 x1 y0 y1 : Nat} (hs : sw_Sm T k E) (D1 : sw_Ed 0 k x0 x1 E E1) (D2 : sw_Ed 1 k y0 y1 E1 E2) (hx : x1 ≤ 99) (hy : y1 ≤ 99) : sw_Sm T 10 E2 := by
  have hs2 : sw_Sm T k E2 := sw_Ed_Sm (by omega) (sw_Ed_Sm (by omega) hs D1) D2
  intro j hj _ tj x hxx
  by_cases e : j = k
  · have e : x = 0 ∨ x = 1 := by omega
    rcases e with e | e
    · subst e
      rw [D2.2.2 _ (by omega) (by omega), show j * 4 + 2 * 0 + 1 = k * 4 + 2 * 0 + 1 by omega, D1.2.1]
      exact hx
    · subst e
      rw [show j * 4 + 2 * 1 + 1 = k * 4 + 2 * 1 + 1 by omega, D2.2.1]
      exact hy
  · exact hs2 j hj e tj x hxx
theorem sw_put81 {xs ys : Nat} (h : sw_Iv T c E O A) (hs : sw_Sm T k E) (hk : k < 10) (tk : T.testBit k = true) (h1 : xs < 10000) (h2 : ys < 10000) (hx : xs % 100 ≤ xs / 100) (hy : ys % 100 ≤ ys / 100) (H : ∀ r E' O' A', sw_In T c E' O' A' → post r (nI T, nI c, sw_lf E', sw_lf O', sw_lf A')) :
    wX_put_81 post (nI k) (nI xs) (nI ys) (nI T) (nI c) (sw_lf E) (sw_lf O) (sw_lf A) := by
  have d1 : nI xs / 100 = nI (xs / 100) := pk_div (d := 100) (by omega) (by omega) (by omega)
  have d2 : nI ys / 100 = nI (ys / 100) := pk_div (d := 100) (by omega) (by omega) (by omega)
  have r1 : nI xs - nI xs / 100 * 100 = nI (xs % 100) := pk_rem (d := 100) (by omega) (by omega) (by omega)
  have r2 : nI ys - nI ys / 100 * 100 = nI (ys % 100) := pk_rem (d := 100) (by omega) (by omega) (by omega)
  unfold wX_put_81
  rw [r1, r2, d1, d2]
  refine sw_ovl hk ⟨by decide, by decide, sw_mvI (x := 0) (by omega) hk tk hx (by omega) h (fun E1 O1 A1 D1 I1 => ⟨by decide, by decide, sw_mvI (x := 1) (by omega) hk tk hy (by omega) I1 (fun E2 O2 A2 D2 I2 => sw_ovl hk (sw_onesA (fun r => H r E2 O2 A2 ⟨I2, ?_⟩)))⟩)⟩
  exact sw_inside hs D1 D2 (by omega) (by omega)
theorem sw_put {xs ys : Nat} (h : sw_In T c E O A) (hk : k < 10) (h1 : xs < 10000) (h2 : ys < 10000) (hx : xs % 100 ≤ xs / 100) (hy : ys % 100 ≤ ys / 100) (H : ∀ r T' c' E' O' A', sw_In T' c' E' O' A' → post r (nI T', nI c', sw_lf E', sw_lf O', sw_lf A')) :
    wpX_put post (nI T, nI c, sw_lf E, sw_lf O, sw_lf A) (nI k) (nI xs) (nI ys) := by
  have d1 : nI xs / 100 = nI (xs / 100) := pk_div (d := 100) (by omega) (by omega) (by omega)
  have d2 : nI ys / 100 = nI (ys / 100) := pk_div (d := 100) (by omega) (by omega) (by omega)
  have r1 : nI xs - nI xs / 100 * 100 = nI (xs % 100) := pk_rem (d := 100) (by omega) (by omega) (by omega)
  have r2 : nI ys - nI ys / 100 * 100 = nI (ys % 100) := pk_rem (d := 100) (by omega) (by omega) (by omega)
  unfold wpX_put
  dsimp only
  refine br_f (nI_pos (by omega)) (pk_le 10000 xs (fun z => absurd z (by omega)) (fun _ => br_f (nI_pos (by omega)) (pk_le 10000 ys (fun z => absurd z (by omega)) (fun _ => ?_))))
  unfold wX_put_27
  rw [r1, r2, d1, d2]
  refine br_f (nI_pos (by omega)) (pk_le 10 k (fun z => absurd z (by omega)) (fun _ => br_f (by decide) ⟨by decide, by decide, pk_lt (xs / 100) (xs % 100) (fun z => absurd z (by omega)) (fun _ => ⟨by decide, by decide, pk_le (ys % 100) (ys / 100) (fun _ => ?_) (fun z => absurd z (by omega))⟩)⟩))
  refine sw_isT h.1.1 hk (fun tk => br_f (by decide) ?_) (fun tk => br_t rfl ?_)
  · exact sw_put81 h.1 (fun j hj _ tj x hx => h.2 j hj (by omega) tj x hx) hk tk h1 h2 hx hy (fun r E' O' A' h' => H r _ _ _ _ _ h')
  · exact sw_enter h hk tk (fun E' O' h' hs' => sw_put81 h' hs' hk ((sw_tor k).mpr (Or.inr rfl)) h1 h2 hx hy (fun r E' O' A' h' => H r _ _ _ _ _ h'))
theorem sw_move {r s : Nat} (h : sw_In T c E O A) (hk : k < 10) (hr : r < 100) (hs : s < 100) (H : ∀ r T' c' E' O' A', sw_In T' c' E' O' A' → post r (nI T', nI c', sw_lf E', sw_lf O', sw_lf A')) :
    wpX_move post (nI T, nI c, sw_lf E, sw_lf O, sw_lf A) (nI k) (nI r - 50) (nI s - 50) := by
  have hE := h.1.2.2.1
  have i0 : nI k * 4 = nI (k * 4) := pk_mul k 4
  have i1 : nI k * 4 + 1 = nI (k * 4 + 1) := by rw [i0, nI_1]
  have i2 : nI k * 4 + 2 = nI (k * 4 + 2) := by rw [i0]; exact nI_add (k * 4) 2
  have i3 : nI k * 4 + 3 = nI (k * 4 + 3) := by rw [i0]; exact nI_add (k * 4) 3
  have v0 : vp_in (nI (k * 4)) 40 := vp_in_nI (by omega) (by omega)
  have v1 : vp_in (nI (k * 4 + 1)) 40 := vp_in_nI (by omega) (by omega)
  have v2 : vp_in (nI (k * 4 + 2)) 40 := vp_in_nI (by omega) (by omega)
  have v3 : vp_in (nI (k * 4 + 3)) 40 := vp_in_nI (by omega) (by omega)
  have hsm : sw_Sm T k E := fun j hj _ tj x hx => h.2 j hj (by omega) tj x hx
  unfold wpX_move
  dsimp only
  rw [i1, i2, i3, i0, nI_clamp (show k * 4 < 2 ^ 31 by omega), nI_clamp (show k * 4 + 1 < 2 ^ 31 by omega), nI_clamp (show k * 4 + 2 < 2 ^ 31 by omega), nI_clamp (show k * 4 + 3 < 2 ^ 31 by omega)]
  refine sw_isT h.1.1 hk (fun tk => br_f (by decide) ?_) (fun _ => br_t rfl (H _ _ _ _ _ _ h))
  have L0 := (h.1.2.2.2 0 (by omega)).2 k hk tk
  have L1 := (h.1.2.2.2 1 (by omega)).2 k hk tk
  refine ⟨v0, v1, sw_fits (hE _) (hE _) hr (br_t rfl (H _ _ _ _ _ _ h)) (fun f1 f2 => br_f (by decide) ⟨v2, v3, sw_fits (hE _) (hE _) hs (br_t rfl (H _ _ _ _ _ _ h)) (fun f3 f4 => br_f (by decide) (sw_ovl hk ⟨v0, v1, ?_⟩))⟩)⟩
  rw [sw_lfa, sw_lfa, sw_addd f1, sw_addd (show 50 ≤ E (k * 4 + 1) + r by have : E (k * 4) ≤ E (k * 4 + 1) := L0; omega)]
  have l0 : E (k * 4) ≤ E (k * 4 + 1) := L0
  have l1 : E (k * 4 + 2) ≤ E (k * 4 + 3) := L1
  refine sw_mvI (x := 0) (by omega) hk tk (by omega) (by omega) h.1 (fun E1 O1 A1 D1 I1 => ⟨v2, v3, ?_⟩)
  have g2 : E1 (k * 4 + 2) = E (k * 4 + 2) := D1.2.2 _ (by omega) (by omega)
  have g3 : E1 (k * 4 + 3) = E (k * 4 + 3) := D1.2.2 _ (by omega) (by omega)
  dsimp only
  rw [sw_lfa, sw_lfa, g2, g3, sw_addd f3, sw_addd (show 50 ≤ E (k * 4 + 3) + s by omega)]
  refine sw_mvI (x := 1) (by omega) hk tk (by omega) (by omega) I1 (fun E2 O2 A2 D2 I2 => sw_ovl hk (sw_onesA (fun r => H r _ _ _ _ _ ⟨I2, ?_⟩)))
  exact sw_inside hsm D1 D2 (by omega) (by omega)
end
end
section
/-! ===== what the masks say ===== -/
theorem sw_ord {T c x a b : Nat} {E O A O0 A0 P : Nat → Nat} (h : sw_Md T c x 20 E O0 A0 O A P) (ha : a < 10) (hb : b < 10) (ta : T.testBit a = true) (tb : T.testBit b = true) : P (2 * a) < P (2 * b + 1) ↔ E (a * 4 + 2 * x) ≤ E (b * 4 + 2 * x + 1) := by
  have ta' : T.testBit (2 * a / 2) = true := by rw [show 2 * a / 2 = a by omega]; exact ta
  have tb' : T.testBit ((2 * b + 1) / 2) = true := by rw [show (2 * b + 1) / 2 = b by omega]; exact tb
  have k1 : sw_ky E x (2 * a) = 2 * E (a * 4 + 2 * x) := by
    unfold sw_ky
    rw [sw_ei_lo]
    omega
  have k2 : sw_ky E x (2 * b + 1) = 2 * E (b * 4 + 2 * x + 1) + 1 := by
    unfold sw_ky
    rw [sw_ei_hi]
    omega
  have s1 := h.2.2.2.1 (2 * a) (2 * b + 1) (by omega) (by omega) (by omega) (by omega) ta' tb'
  have s2 := h.2.2.2.1 (2 * b + 1) (2 * a) (by omega) (by omega) (by omega) (by omega) tb' ta'
  have n : P (2 * a) ≠ P (2 * b + 1) := fun z => by
    have := sw_Pm_inj h.1 (by omega) (by omega) ta' tb' z
    omega
  rw [k1, k2] at s1 s2
  omega
theorem sw_Gm {T c x a b : Nat} {E O A : Nat → Nat} (h : sw_Iv T c E O A) (hx : x < 2) (ha : a < 10) (hb : b < 10) :
    (A (x * 10 + a)).testBit b = true ↔ (a ≠ b ∧ T.testBit a = true ∧ T.testBit b = true ∧ E (a * 4 + 2 * x) ≤ E (b * 4 + 2 * x + 1) ∧ E (b * 4 + 2 * x) ≤ E (a * 4 + 2 * x + 1)) := by
  obtain ⟨⟨P, hP⟩, _⟩ := h.2.2.2 x hx
  have := hP.2.2.1 a b ha hb
  rw [this]
  constructor
  · intro z
    obtain ⟨z1, z2, z3, z4, z5⟩ := z
    exact ⟨z1, z2, z3, (sw_ord hP ha hb z2 z3).mp z4, (sw_ord hP hb ha z3 z2).mp z5⟩
  · intro z
    obtain ⟨z1, z2, z3, z4, z5⟩ := z
    exact ⟨z1, z2, z3, (sw_ord hP ha hb z2 z3).mpr z4, (sw_ord hP hb ha z3 z2).mpr z5⟩
def sw_N (A : Nat → Nat) (k : Nat) : Nat := A k &&& A (10 + k)
theorem sw_Nt {T c a b : Nat} {E O A : Nat → Nat} (h : sw_Iv T c E O A) (ha : a < 10) (hb : b < 10) :
    (sw_N A a).testBit b = true ↔ (a ≠ b ∧ T.testBit a = true ∧ T.testBit b = true ∧ ∀ x, x < 2 → E (a * 4 + 2 * x) ≤ E (b * 4 + 2 * x + 1) ∧ E (b * 4 + 2 * x) ≤ E (a * 4 + 2 * x + 1)) := by
  have g0 := sw_Gm h (x := 0) (by omega) ha hb
  have g1 := sw_Gm h (x := 1) (by omega) ha hb
  rw [show 0 * 10 + a = a by omega] at g0
  rw [show 1 * 10 + a = 10 + a by omega] at g1
  unfold sw_N
  rw [Nat.testBit_and, Bool.and_eq_true, g0, g1]
  constructor
  · intro z
    obtain ⟨⟨z1, z2, z3, z4⟩, ⟨_, _, _, z5⟩⟩ := z
    refine ⟨z1, z2, z3, fun x hx => ?_⟩
    have e : x = 0 ∨ x = 1 := by omega
    rcases e with e | e
    · subst e; exact z4
    · subst e; exact z5
  · intro z
    obtain ⟨z1, z2, z3, z4⟩ := z
    exact ⟨⟨z1, z2, z3, z4 0 (by omega)⟩, ⟨z1, z2, z3, z4 1 (by omega)⟩⟩
/-- partners: symmetric, none its own, only of those that are there -/
def sw_Ng (T : Nat) (N : Nat → Nat) : Prop := (∀ k, k < 10 → N k < 1024) ∧ (∀ j k, j < 10 → k < 10 → (N j).testBit k = (N k).testBit j) ∧ (∀ k, k < 10 → (N k).testBit k = false) ∧ (∀ j k, j < 10 → k < 10 → (N j).testBit k = true → T.testBit j = true ∧ T.testBit k = true)
theorem sw_bool {a b : Bool} (h : a = true ↔ b = true) : a = b := by
  cases a <;> cases b <;> simp_all
theorem sw_Ng_ok {T c : Nat} {E O A : Nat → Nat} (h : sw_Iv T c E O A) : sw_Ng T (sw_N A) := by
  refine ⟨fun k hk => ?_, fun j k hj hk => ?_, fun k hk => ?_, fun j k hj hk z => ?_⟩
  · obtain ⟨⟨P, hP⟩, _⟩ := h.2.2.2 0 (by omega)
    exact sw_and_lt (hP.2.2.2.2.2.1 k)
  · apply sw_bool
    rw [sw_Nt h hj hk, sw_Nt h hk hj]
    constructor
    · intro z
      obtain ⟨z1, z2, z3, z4⟩ := z
      exact ⟨fun y => z1 y.symm, z3, z2, fun x hx => ⟨(z4 x hx).2, (z4 x hx).1⟩⟩
    · intro z
      obtain ⟨z1, z2, z3, z4⟩ := z
      exact ⟨fun y => z1 y.symm, z3, z2, fun x hx => ⟨(z4 x hx).2, (z4 x hx).1⟩⟩
  · cases e : (sw_N A k).testBit k with
    | false => rfl
    | true => exact absurd rfl ((sw_Nt h hk hk).mp e).1
  · have := (sw_Nt h hj hk).mp z
    exact ⟨this.2.1, this.2.2.1⟩
/-! ===== sums ===== -/
def sw_sm (f : Nat → Nat) : Nat → Nat
  | 0 => 0
  | n + 1 => sw_sm f n + f n
theorem sw_sm_cg {f g : Nat → Nat} : ∀ n, (∀ j, j < n → f j = g j) → sw_sm f n = sw_sm g n
  | 0, _ => rfl
  | n + 1, h => by
    show sw_sm f n + f n = sw_sm g n + g n
    rw [sw_sm_cg n (fun j hj => h j (by omega)), h n (by omega)]
theorem sw_sm_add (f g : Nat → Nat) : ∀ n, sw_sm (fun j => f j + g j) n = sw_sm f n + sw_sm g n
  | 0 => rfl
  | n + 1 => by
    show sw_sm (fun j => f j + g j) n + (f n + g n) = sw_sm f n + f n + (sw_sm g n + g n)
    rw [sw_sm_add f g n]
    omega
theorem sw_sm_0 : ∀ n, sw_sm (fun _ => 0) n = 0
  | 0 => rfl
  | n + 1 => by
    show sw_sm (fun _ => 0) n + 0 = 0
    rw [sw_sm_0 n]
theorem sw_sm_comm (g : Nat → Nat → Nat) (n : Nat) : ∀ m, sw_sm (fun a => sw_sm (fun b => g a b) n) m = sw_sm (fun b => sw_sm (fun a => g a b) m) n
  | 0 => (sw_sm_0 n).symm
  | m + 1 => by
    show sw_sm (fun a => sw_sm (fun b => g a b) n) m + sw_sm (fun b => g m b) n = sw_sm (fun b => sw_sm (fun a => g a b) m + g m b) n
    rw [sw_sm_comm g n m, sw_sm_add]
theorem sw_cn_sm (f : Nat → Bool) : ∀ n, sw_cn f n = sw_sm (fun j => (f j).toNat) n
  | 0 => rfl
  | n + 1 => by
    show sw_cn f n + _ = sw_sm _ n + _
    rw [sw_cn_sm f n]
theorem sw_cn_app (f : Nat → Bool) (p : Nat) : ∀ n, sw_cn f (p + n) = sw_cn f p + sw_cn (fun j => f (p + j)) n
  | 0 => rfl
  | n + 1 => by
    show sw_cn f (p + n) + (f (p + n)).toNat = sw_cn f p + (sw_cn (fun j => f (p + j)) n + (f (p + n)).toNat)
    rw [sw_cn_app f p n]
    omega
theorem sw_sm_le {f : Nat → Nat} {M : Nat} (h : ∀ j, f j ≤ M) : ∀ n, sw_sm f n ≤ n * M
  | 0 => Nat.zero_le _
  | n + 1 => by
    have h1 := sw_sm_le h n
    have h2 := h n
    show sw_sm f n + f n ≤ (n + 1) * M
    rw [Nat.succ_mul]
    omega
/-- the pair p = 10 a + b -/
def sw_hp (N : Nat → Nat) (p : Nat) : Bool := decide (p / 10 < p % 10) && (N (p / 10)).testBit (p % 10)
def sw_K (N : Nat → Nat) (q : Nat) : Nat := sw_cn (sw_hp N) q
theorem sw_hp_ab (N : Nat → Nat) (a : Nat) {b : Nat} (hb : b < 10) : sw_hp N (10 * a + b) = (decide (a < b) && (N a).testBit b) := by
  unfold sw_hp
  rw [show (10 * a + b) / 10 = a by omega, show (10 * a + b) % 10 = b by omega]
def sw_R (N : Nat → Nat) (a : Nat) : Nat := sw_cn (fun b => decide (a < b) && (N a).testBit b) 10
theorem sw_K_sm (N : Nat → Nat) : ∀ a, sw_K N (10 * a) = sw_sm (sw_R N) a
  | 0 => rfl
  | a + 1 => by
    show sw_cn (sw_hp N) (10 * a + 10) = sw_sm (sw_R N) a + sw_R N a
    rw [sw_cn_app, ← sw_K_sm N a]
    unfold sw_K sw_R
    rw [sw_cn_cg 10 (fun j hj => sw_hp_ab N a hj)]
theorem sw_K_45 (N : Nat → Nat) : sw_K N 100 ≤ 45 := by
  have h : sw_cn (fun p => decide (p / 10 < p % 10)) 100 = 45 := by decide +kernel
  rw [← h]
  exact sw_cn_mono 100 (fun j _ hj => by
    unfold sw_hp at hj
    rw [Bool.and_eq_true] at hj
    exact hj.1)
/-- the ends of the pairs -/
def sw_S (N : Nat → Nat) : Nat := sw_sm (fun a => sw_cn (N a).testBit 10) 10
theorem sw_S_2K {T : Nat} {N : Nat → Nat} (h : sw_Ng T N) : sw_S N = 2 * sw_K N 100 := by
  have e1 : sw_K N 100 = sw_sm (fun a => sw_sm (fun b => (decide (a < b) && (N a).testBit b).toNat) 10) 10 := by
    rw [show 100 = 10 * 10 from rfl, sw_K_sm N 10]
    exact sw_sm_cg 10 (fun a _ => sw_cn_sm _ 10)
  have e2 : sw_S N = sw_sm (fun a => sw_sm (fun b => (decide (a < b) && (N a).testBit b).toNat) 10 + sw_sm (fun b => (decide (b < a) && (N b).testBit a).toNat) 10) 10 := by
    unfold sw_S
    refine sw_sm_cg 10 (fun a ha => ?_)
    rw [sw_cn_sm, ← sw_sm_add]
    refine sw_sm_cg 10 (fun b hb => ?_)
    rw [h.2.1 b a hb ha]
    rcases Nat.lt_trichotomy a b with g | g | g
    · simp [g, Nat.not_lt_of_lt g]
    · subst g
      rw [h.2.2.1 a ha]
      simp
    · simp [g, Nat.not_lt_of_lt g]
  rw [e2, sw_sm_add, sw_sm_comm (fun a b => (decide (b < a) && (N b).testBit a).toNat) 10 10, e1]
  omega
/-! ===== ones, bits, partners, pairs, pair ===== -/
section
variable {pr : Int32 → Prop} {cn : Int32} {a1 a2 : Nat → Int32} {T : Nat} {A : Nat → Nat}
theorem sw_ones {m : Nat} (hm : m < 1024) (h : pr (nI (sw_cn m.testBit 10))) : wpX_ones pr () (nI m) := by
  unfold wpX_ones
  refine pk_loop (σ := Unit) (fun n i _ => wX_ones_4 pr (nI m) n (nI (sw_cn m.testBit i)) (nI i)) (fun _ _ => True) 10 0 () (by omega) trivial ?_ ?_
  · intro n s _
    exact pk_le 10 10 (fun _ => h) (fun z => absurd z (by omega))
  · intro n i s hi _ hw
    refine pk_le 10 i (fun z => absurd z (by omega)) (fun _ => nm_r ?_ (nm_r (nI_1 i) (hw () trivial)))
    rw [sw_bit (by omega) (by omega), nI_add]
    rfl
theorem sw_bits {m : Nat} (hm : m < 1024) (h : pr (nI (sw_cn m.testBit 10))) : wpL_bits pr () (nI m) := by
  unfold wpL_bits
  refine pk_loop (σ := Unit) (fun n i _ => wL_bits_4 pr (nI m) n (nI (sw_cn m.testBit i)) (nI i)) (fun _ _ => True) 10 0 () (by omega) trivial ?_ ?_
  · intro n s _
    exact pk_le 10 10 (fun _ => h) (fun z => absurd z (by omega))
  · intro n i s hi _ hw
    refine pk_le 10 i (fun z => absurd z (by omega)) (fun _ => nm_r ?_ (nm_r (nI_1 i) (hw () trivial)))
    rw [sw_bit (by omega) (by omega), nI_add]
    rfl
theorem sw_N0 {N : Nat → Nat} {k : Nat} (hN : sw_Ng T N) (hk : k < 10) (tk : T.testBit k = false) : N k = 0 := by
  refine sw_zero (hN.1 k hk) (fun j hj => ?_)
  cases e : (N k).testBit j with
  | false => rfl
  | true =>
    have := (hN.2.2.2 k j hk hj e).1
    rw [tk] at this
    exact absurd this (by decide)
theorem sw_partners {k : Nat} (hT : T < 1024) (hN : sw_Ng T (sw_N A)) (hk : k < 10) (h : pr (nI (sw_N A k))) : wpX_partners pr (nI T, cn, a1, a2, sw_lf A) (nI k) := by
  unfold wpX_partners
  dsimp only
  refine sw_isT hT hk (fun tk => br_f (by decide) (sw_ovl hk h)) (fun tk => br_t rfl ?_)
  rw [sw_N0 hN hk tk] at h
  exact h
theorem sw_pairs (hT : T < 1024) (hN : sw_Ng T (sw_N A)) (h : pr (nI (sw_K (sw_N A) 100))) : wpX_pairs pr (nI T, cn, a1, a2, sw_lf A) := by
  unfold wpX_pairs
  dsimp only
  refine pk_loop (σ := Unit) (fun n i _ => wX_pairs_4 pr (nI T) cn a1 a2 (sw_lf A) n (nI (sw_sm (fun a => sw_cn (sw_N A a).testBit 10) i)) (nI i)) (fun _ _ => True) 10 0 () (by omega) trivial ?_ ?_
  · intro n s _
    refine pk_le 10 10 (fun _ => ⟨by decide, ?_⟩) (fun z => absurd z (by omega))
    have e : sw_sm (fun a => sw_cn (sw_N A a).testBit 10) 10 = 2 * sw_K (sw_N A) 100 := sw_S_2K hN
    have b := sw_K_45 (sw_N A)
    have d : nI (2 * sw_K (sw_N A) 100) / 2 = nI (2 * sw_K (sw_N A) 100 / 2) := pk_div (d := 2) (by omega) (by omega) (by omega)
    rw [e, d, show 2 * sw_K (sw_N A) 100 / 2 = sw_K (sw_N A) 100 by omega]
    exact h
  · intro n i s hi _ hw
    refine pk_le 10 i (fun z => absurd z (by omega)) (fun _ => sw_partners hT hN hi (sw_ones (hN.1 i hi) (nm_r (nI_add _ _) (nm_r (nI_1 i) (hw () trivial)))))
theorem sw_K_step {N : Nat → Nat} {a b : Nat} (hb : b < 10) (hab : a < b) : sw_K N (10 * a + (b + 1)) = sw_K N (10 * a + b) + ((N a).testBit b).toNat := by
  show sw_cn (sw_hp N) (10 * a + b) + (sw_hp N (10 * a + b)).toNat = _
  rw [sw_hp_ab N a hb, decide_eq_true hab, Bool.true_and]
  rfl
theorem sw_K_skip (N : Nat → Nat) {a : Nat} (ha : a < 10) : ∀ j, j ≤ a + 1 → sw_K N (10 * a + j) = sw_K N (10 * a)
  | 0, _ => rfl
  | j + 1, h => by
    show sw_cn (sw_hp N) (10 * a + j) + (sw_hp N (10 * a + j)).toNat = _
    rw [sw_hp_ab N a (by omega), decide_eq_false (by omega), Bool.false_and]
    exact sw_K_skip N ha j (by omega)
theorem sw_pr22 {J : Int32 → Int32 → Prop} {th : Int32} {a3 : Nat → Int32} {N : Nat → Nat} {q a : Nat} (hN : sw_Ng T N) (hq : q < 46) (ha : a < 10) (h0 : sw_K N (10 * a) ≤ q)
    (hJ : sw_K N (10 * (a + 1)) ≤ q → J (nI (sw_K N (10 * (a + 1)))) (nI (a + 1))) (hp : ∀ b, b < 10 → sw_hp N (10 * a + b) = true → sw_K N (10 * a + b) = q → pr (nI (10 * a + b))) :
    ∃ n, wX_pair_22 pr J (nI q) (nI a) (nI (N a)) th cn a1 a2 a3 n (nI (sw_K N (10 * a))) (nI (a + 1)) := by
  have hm := hN.1 a ha
  rw [← sw_K_skip N ha (a + 1) (Nat.le_refl _)] at h0 ⊢
  refine pk_loop (σ := Unit) (fun n i _ => wX_pair_22 pr J (nI q) (nI a) (nI (N a)) th cn a1 a2 a3 n (nI (sw_K N (10 * a + i))) (nI i)) (fun i _ => a < i ∧ sw_K N (10 * a + i) ≤ q) 10 (a + 1) () (by omega) ⟨by omega, h0⟩ ?_ ?_
  · intro n _ hI
    exact pk_le 10 10 (fun _ => nm_r (nI_1 a) (hJ hI.2)) (fun z => absurd z (by omega))
  · intro n i _ hi hI hw
    have st := sw_K_step (N := N) hi hI.1
    have kb : sw_K N (10 * a + i) ≤ 10 * a + i := sw_cn_le _ _
    refine pk_le 10 i (fun z => absurd z (by omega)) (fun _ => ?_)
    rw [sw_bit (by omega) (by omega)]
    cases e : (N a).testBit i with
    | false =>
      rw [e] at st
      refine br_t (by decide) (nm_r (nI_1 i) ?_)
      have w := hw () ⟨by omega, by rw [st]; exact hI.2⟩
      rw [st] at w
      exact w
    | true =>
      rw [e] at st
      refine br_f (by decide) (pk_eq (sw_K N (10 * a + i)) q (fun z => ?_) (fun z => nm_r (nI_1 _) (nm_r (nI_1 i) ?_)))
      · have ix : 10 * nI a + nI i = nI (10 * a + i) := by
          rw [show (10 : Int32) = nI 10 from rfl, pk_mul, nI_add]
        rw [ix]
        refine hp i hi ?_ z
        rw [sw_hp_ab N a hi, e, decide_eq_true hI.1]
        rfl
      · have st' : sw_K N (10 * a + (i + 1)) = sw_K N (10 * a + i) + 1 := st
        have w := hw () ⟨by omega, by rw [st']; have := hI.2; omega⟩
        rw [st'] at w
        exact w
theorem sw_pair {q : Nat} (hT : T < 1024) (hN : sw_Ng T (sw_N A)) (hq : q < 46) (hp : ∀ p, p < 100 → sw_hp (sw_N A) p = true → sw_K (sw_N A) p = q → pr (nI p)) (hb : sw_K (sw_N A) 100 ≤ q → pr (-1)) : wpX_pair pr (nI T, cn, a1, a2, sw_lf A) (nI q) := by
  unfold wpX_pair
  dsimp only
  refine pk_loop (σ := Unit) (fun n a _ => wX_pair_4 pr (nI q) (nI T) cn a1 a2 (sw_lf A) n (nI (sw_K (sw_N A) (10 * a))) (nI a)) (fun a _ => sw_K (sw_N A) (10 * a) ≤ q) 10 0 () (by omega) (Nat.zero_le _) ?_ ?_
  · intro n _ hI
    exact pk_le 10 10 (fun _ => hb hI) (fun z => absurd z (by omega))
  · intro n a _ ha hI hw
    exact pk_le 10 a (fun z => absurd z (by omega)) (fun _ => sw_partners hT hN ha (nm_r (nI_1 a) (sw_pr22 hN hq ha hI (fun z => hw () z) (fun b hb h1 h2 => hp _ (by omega) h1 h2))))
end
end
section
/-! ===== cluster, clusters ===== -/
/-- a set with the partners of all its own -/
def sw_cd (N : Nat → Nat) (s : Nat) : Prop := ∀ j k, j < 10 → k < 10 → s.testBit j = true → (N j).testBit k = true → s.testBit k = true
section
variable {pr : Int32 → Prop} {th cn : Int32} {a1 a2 : Nat → Int32} {T : Nat} {A : Nat → Nat}
theorem sw_or0 (s : Nat) : nI s ||| 0 = nI s := by
  rw [show (0 : Int32) = nI 0 from rfl, sw_nor, Nat.or_zero]
theorem sw_c25 {J : Int32 → Int32 → Prop} {r s0 : Nat} (hN : sw_Ng T (sw_N A)) (hs : s0 < 1024)
    (H : ∀ s, s < 1024 → (∀ j, j < 10 → s0.testBit j = true → s.testBit j = true) → (∀ j k, j < 10 → k < 10 → s0.testBit j = true → (sw_N A j).testBit k = true → s.testBit k = true) → (sw_cd (sw_N A) s0 → s = s0) → J (nI s) (nI (r + 1))) :
    ∃ n, wX_cluster_25 pr J (nI r) th cn a1 a2 (sw_lf A) n (nI s0) 0 := by
  refine pk_loop (σ := Nat) (fun n i s => wX_cluster_25 pr J (nI r) th cn a1 a2 (sw_lf A) n (nI s) (nI i)) (fun i s => s < 1024 ∧ (∀ j, j < 10 → s0.testBit j = true → s.testBit j = true) ∧ (∀ j k, j < i → k < 10 → s0.testBit j = true → (sw_N A j).testBit k = true → s.testBit k = true) ∧ (sw_cd (sw_N A) s0 → s = s0)) 10 0 s0 (by omega) ⟨hs, fun j _ z => z, fun j k hj => absurd hj (by omega), fun _ => rfl⟩ ?_ ?_
  · intro n s hI
    exact pk_le 10 10 (fun _ => nm_r (nI_1 r) (H s hI.1 hI.2.1 hI.2.2.1 hI.2.2.2)) (fun z => absurd z (by omega))
  · intro n i s hi hI hw
    obtain ⟨i1, i2, i3, i4⟩ := hI
    refine pk_le 10 i (fun z => absurd z (by omega)) (fun _ => ?_)
    rw [sw_bit (by omega) (by omega)]
    cases e : s.testBit i with
    | false =>
      refine br_t (by decide) (nm_r (sw_or0 s) (nm_r (nI_1 i) (hw s ⟨i1, i2, fun j k hj hk z y => ?_, i4⟩)))
      by_cases g : j = i
      · subst g
        rw [i2 j hi z] at e
        exact absurd e (by decide)
      · exact i3 j k (by omega) hk z y
    | true =>
      refine br_f (by decide) (sw_ovl hi (nm_r (sw_nor s _) (nm_r (nI_1 i) (hw (s ||| sw_N A i) ⟨sw_or_lt i1 (hN.1 i hi), fun j hj z => ?_, fun j k hj hk z y => ?_, fun z => ?_⟩))))
      · rw [Nat.testBit_or, i2 j hj z]
        rfl
      · rw [Nat.testBit_or]
        by_cases g : j = i
        · rw [← g, y, Bool.or_true]
        · rw [i3 j k (by omega) hk z y]
          rfl
      · have e4 := i4 z
        refine sw_ext (sw_or_lt i1 (hN.1 i hi)) hs (fun j hj => ?_)
        rw [Nat.testBit_or, e4]
        cases g : (sw_N A i).testBit j with
        | false => rw [Bool.or_false]
        | true =>
          rw [e4] at e
          rw [z i j hi hj e g]
          rfl
theorem sw_cluster {k : Nat} (hT : T < 1024) (hN : sw_Ng T (sw_N A)) (hk : k < 10) (h0 : T.testBit k = false → pr 0) (h1 : T.testBit k = true → ∀ C, C < 1024 → C.testBit k = true → sw_cd (sw_N A) C → pr (nI C)) : wpX_cluster pr (nI T, cn, a1, a2, sw_lf A) (nI k) := by
  unfold wpX_cluster
  dsimp only
  rw [sw_one (by omega)]
  refine sw_isT hT hk (fun tk => br_f (by decide) (nm_e ?_)) (fun tk => br_t rfl (h0 tk))
  have b0 : (2 ^ k).testBit k = true := by rw [Nat.testBit_two_pow]; simp
  refine pk_loop (σ := Nat) (fun n i s => wX_cluster_16 pr (nI T) cn a1 a2 (sw_lf A) n (nI s) (nI i)) (fun i s => s < 1024 ∧ s.testBit k = true ∧ (sw_cd (sw_N A) s ∨ i + 1 ≤ sw_cn s.testBit 10)) 10 0 (2 ^ k) (by omega) ⟨sw_p_lt hk, b0, Or.inr (sw_cn_pos b0 hk)⟩ ?_ ?_
  · intro n s hI
    refine pk_le 10 10 (fun _ => h1 tk s hI.1 hI.2.1 ?_) (fun z => absurd z (by omega))
    rcases hI.2.2 with g | g
    · exact g
    · have := sw_cn_le s.testBit 10
      omega
  · intro n i s hi hI hw
    refine pk_le 10 i (fun z => absurd z (by omega)) (fun _ => sw_c25 hN hI.1 (fun s' b m p q => hw s' ⟨b, m k hk hI.2.1, ?_⟩))
    rcases hI.2.2 with g | g
    · left
      rw [q g]
      exact g
    · by_cases hx : ∀ j, j < 10 → s'.testBit j = true → s.testBit j = true
      · left
        have e : s' = s := sw_ext b hI.1 (fun j hj => sw_bool ⟨hx j hj, m j hj⟩)
        rw [e] at p ⊢
        exact p
      · right
        obtain ⟨j, hj⟩ := Classical.not_forall.mp hx
        obtain ⟨hj1, hj2⟩ := Classical.not_imp.mp hj
        obtain ⟨hj3, hj4⟩ := Classical.not_imp.mp hj2
        have e : s.testBit j = false := by simpa using hj4
        have := sw_cn_lt (f := s.testBit) (g := s'.testBit) e hj3 10 hj1 m
        omega
theorem sw_clusters (hT : T < 1024) (hN : sw_Ng T (sw_N A)) (H : ∀ n, n ≤ sw_cn T.testBit 10 → pr (nI n)) : wpX_clusters pr (nI T, cn, a1, a2, sw_lf A) := by
  unfold wpX_clusters
  dsimp only
  refine pk_loop (σ := Nat × Nat) (fun n i s => wX_clusters_9 pr (nI T) cn a1 a2 (sw_lf A) n (nI s.1) (nI s.2) (nI i)) (fun i s => s.1 < 1024 ∧ (∀ j, j < 10 → s.1.testBit j = true → T.testBit j = true) ∧ s.2 ≤ sw_cn T.testBit i) 10 0 (T, 0) (by omega) ⟨hT, fun j _ z => z, Nat.le_refl 0⟩ ?_ ?_
  · intro n s hI
    exact pk_le 10 10 (fun _ => H s.2 hI.2.2) (fun z => absurd z (by omega))
  · intro n i s hi hI hw
    obtain ⟨l, m⟩ := s
    obtain ⟨i1, i2, i3⟩ := hI
    dsimp only at i1 i2 i3
    have hb := sw_cn_le T.testBit i
    refine pk_le 10 i (fun z => absurd z (by omega)) (fun _ => ?_)
    show (((nI l >>> (nI i &&& 31)) &&& 1 = 0 → _) ∧ (¬ (nI l >>> (nI i &&& 31)) &&& 1 = 0 → _))
    rw [sw_bit (by omega) (by omega)]
    cases e : l.testBit i with
    | false => exact br_t (by decide) (nm_r (nI_1 i) (hw (l, m) ⟨i1, i2, Nat.le_trans i3 (Nat.le_add_right _ _)⟩))
    | true =>
      have ti := i2 i hi e
      refine br_f (by decide) (sw_cluster hT hN hi (fun z => absurd z (by rw [ti]; decide)) (fun _ C hC _ _ => nm_r (sw_ncl l C) (nm_r (nI_1 m) (nm_r (nI_1 i) (hw (sw_cl l C, m + 1) ⟨sw_cl_lt i1, fun j hj z => ?_, ?_⟩)))))
      · have z' : (sw_cl l C).testBit j = true := z
        rw [sw_cl_b i1, Bool.and_eq_true] at z'
        exact i2 j hj z'.1
      · show m + 1 ≤ sw_cn T.testBit i + (T.testBit i).toNat
        rw [sw_tn1 ti]
        omega
end
/-! ===== spansAt, at, deepest ===== -/
/-- whose span holds v, by the edges ahead of place i -/
def sw_Sp (T x v i s : Nat) (E P : Nat → Nat) : Prop := s < 1024 ∧ ∀ k, k < 10 → (s.testBit k = true ↔ (T.testBit k = true ∧ P (2 * k) < i ∧ E (k * 4 + 2 * x) ≤ v ∧ (P (2 * k + 1) < i → v ≤ E (k * 4 + 2 * x + 1))))
theorem sw_spS {T c x v i s s' e : Nat} {E O A P : Nat → Nat} (h : sw_Md T c x 20 E O A O A P) (hi : i < c) (he : O (x * 20 + i) = e) (hs : sw_Sp T x v i s E P) (b : s' < 1024)
    (h0 : ∀ k, k < 10 → k ≠ e / 2 → s'.testBit k = s.testBit k)
    (h1 : e % 2 = 0 → (s'.testBit (e / 2) = true ↔ E (sw_ei x e) ≤ v))
    (h2 : e % 2 = 1 → (s'.testBit (e / 2) = true ↔ (s.testBit (e / 2) = true ∧ v ≤ E (sw_ei x e)))) : sw_Sp T x v (i + 1) s' E P := by
  have q := h.1.1 i hi
  have qo : (fun i => O (x * 20 + i)) i = e := he
  rw [qo] at q
  refine ⟨b, fun k hk => ?_⟩
  by_cases ek : k = e / 2
  · have tk : T.testBit k = true := by rw [ek]; exact q.2.1
    have lh := h.2.1 k hk tk
    rcases Nat.mod_two_eq_zero_or_one e with g | g
    · have e1 : e = 2 * k := by omega
      have p1 : P (2 * k) = i := by rw [← e1]; exact q.2.2
      have hh := h1 g
      rw [← ek, e1, sw_ei_lo] at hh
      rw [hh]
      exact ⟨fun z => ⟨tk, by omega, z, fun y => absurd y (by omega)⟩, fun z => z.2.2.1⟩
    · have e1 : e = 2 * k + 1 := by omega
      have p1 : P (2 * k + 1) = i := by rw [← e1]; exact q.2.2
      have hh := h2 g
      rw [← ek, e1, sw_ei_hi, hs.2 k hk] at hh
      rw [hh]
      exact ⟨fun z => ⟨tk, by omega, z.1.2.2.1, fun _ => z.2⟩, fun z => ⟨⟨tk, by omega, z.2.2.1, fun y => absurd y (by omega)⟩, z.2.2.2 (by omega)⟩⟩
  · rw [h0 k hk ek, hs.2 k hk]
    constructor
    · intro z
      have tk := z.1
      have n2 : P (2 * k + 1) ≠ i := fun y => by
        have := sw_Pm_inj h.1 (e := 2 * k + 1) (f := e) (by omega) q.1 (by rw [show (2 * k + 1) / 2 = k by omega]; exact tk) q.2.1 (by omega)
        omega
      exact ⟨tk, by omega, z.2.2.1, fun y => z.2.2.2 (by omega)⟩
    · intro z
      have tk := z.1
      have n1 : P (2 * k) ≠ i := fun y => by
        have := sw_Pm_inj h.1 (e := 2 * k) (f := e) (by omega) q.1 (by rw [show 2 * k / 2 = k by omega]; exact tk) q.2.1 (by omega)
        omega
      exact ⟨tk, by omega, z.2.2.1, fun y => z.2.2.2 (by omega)⟩
section
variable {pr : Int32 → Prop} {T c : Nat} {E O A : Nat → Nat}
theorem sw_spans {x v : Nat} (h : sw_Iv T c E O A) (hx : x < 2) (hv : v ≤ 1000) (H : ∀ s, s < 1024 → (∀ k, k < 10 → (s.testBit k = true ↔ (T.testBit k = true ∧ E (k * 4 + 2 * x) ≤ v ∧ v ≤ E (k * 4 + 2 * x + 1)))) → pr (nI s)) :
    wpX_spansAt pr (nI T, nI c, sw_lf E, sw_lf O, sw_lf A) (nI x) (nI v) := by
  have hc := sw_Iv_c h
  have hE := h.2.2.1
  obtain ⟨⟨P, hP⟩, _⟩ := h.2.2.2 x hx
  unfold wpX_spansAt
  dsimp only
  refine pk_loop (σ := Nat) (fun n i s => wX_spansAt_5 pr (nI x) (nI v) (nI T) (nI c) (sw_lf E) (sw_lf O) (sw_lf A) n (nI s) (nI i)) (fun i s => sw_Sp T x v i s E P) c 0 0 (by omega) ⟨by omega, fun k hk => ?_⟩ ?_ ?_
  · rw [Nat.zero_testBit]
    exact ⟨fun z => absurd z (by decide), fun z => absurd z.2.1 (by omega)⟩
  · intro n s hI
    refine pk_le c c (fun _ => H s hI.1 (fun k hk => ?_)) (fun z => absurd z (by omega))
    rw [hI.2 k hk]
    constructor
    · intro z
      exact ⟨z.1, z.2.2.1, z.2.2.2 (hP.1.2 (2 * k + 1) (by omega) (by rw [show (2 * k + 1) / 2 = k by omega]; exact z.1)).1⟩
    · intro z
      exact ⟨z.1, (hP.1.2 (2 * k) (by omega) (by rw [show 2 * k / 2 = k by omega]; exact z.1)).1, z.2.1, fun _ => z.2.2⟩
  · intro n i s hi hI hw
    have q := hP.1.1 i hi
    dsimp only at q
    refine pk_le c i (fun z => absurd z (by omega)) (fun _ => ⟨pk_in (x * 20 + i) 40 (by omega) (sw_i20 x i), ?_⟩)
    rw [sw_i20, nI_clamp (by omega), sw_lfa]
    refine nm_e ?_
    generalize he : O (x * 20 + i) = e at q ⊢
    have bE := hE (sw_ei x e)
    have hk := sw_one (k := e / 2) (by omega)
    have step := fun s' b h0 h1 h2 => hw s' (sw_spS (s' := s') hP hi he hI b h0 h1 h2)
    refine sw_value hx q.1 ?_
    unfold wX_spansAt_62
    rw [sw_half (by omega), sw_par (by omega), hk]
    refine pk_eq (e % 2) 0 (fun g => pk_lt v (E (sw_ei x e)) (fun y => br_f ?_ (nm_r (nI_1 i) (step s hI.1 (fun _ _ _ => rfl) (fun _ => ?_) (fun z => absurd z (by omega))))) (fun y => nm_r (sw_nor s _) (nm_r (nI_1 i) (step _ (sw_or_lt hI.1 (sw_p_lt (by omega))) (fun k hk1 hk2 => ?_) (fun _ => ?_) (fun z => absurd z (by omega)))))) (fun g => pk_eq (e % 2) 1 (fun g1 => pk_le v (E (sw_ei x e)) (fun y => nm_r (nI_1 i) (step s hI.1 (fun _ _ _ => rfl) (fun z => absurd z g) (fun _ => ?_))) (fun y => nm_r (sw_ncl s _) (nm_r (nI_1 i) (step _ (sw_cl_lt hI.1) (fun k hk1 hk2 => ?_) (fun z => absurd z g) (fun _ => ?_))))) (fun z => absurd z (by omega)))
    · rw [g]; decide
    · rw [hI.2 _ (by omega)]
      refine ⟨fun z => ?_, fun z => absurd z (by omega)⟩
      have e1 : e = 2 * (e / 2) := by omega
      have := z.2.1
      rw [← e1, q.2.2] at this
      omega
    · rw [sw_sb_b]
      have e' : ¬ e / 2 = k := fun z => hk2 z.symm
      simp [e']
    · rw [sw_sb_b]
      simp [y]
    · exact ⟨fun z => ⟨z, y⟩, fun z => z.1⟩
    · rw [sw_cb_b hI.1]
      have e' : ¬ e / 2 = k := fun z => hk2 z.symm
      simp [e']
    · rw [sw_cb_b hI.1]
      have y' : ¬ v ≤ E (sw_ei x e) := by omega
      simp [y']
def sw_Pt (T : Nat) (E : Nat → Nat) (x y s : Nat) : Prop := s < 1024 ∧ ∀ k, k < 10 → (s.testBit k = true ↔ (T.testBit k = true ∧ (E (k * 4) ≤ x ∧ x ≤ E (k * 4 + 1)) ∧ (E (k * 4 + 2) ≤ y ∧ y ≤ E (k * 4 + 3))))
theorem sw_at {x y : Nat} (h : sw_Iv T c E O A) (hx : x ≤ 1000) (hy : y ≤ 1000) (H : ∀ s, sw_Pt T E x y s → pr (nI s)) : wpX_at pr (nI T, nI c, sw_lf E, sw_lf O, sw_lf A) (nI x) (nI y) := by
  unfold wpX_at
  dsimp only
  refine sw_spans (x := 0) h (by omega) hx (fun s bs hs => sw_spans (x := 1) h (by omega) hy (fun t bt ht => ?_))
  rw [sw_nand]
  refine H _ ⟨sw_and_lt bs, fun k hk => ?_⟩
  rw [Nat.testBit_and, Bool.and_eq_true, hs k hk, ht k hk]
  exact ⟨fun z => ⟨z.1.1, z.1.2, z.2.2⟩, fun z => ⟨⟨z.1, z.2.1⟩, ⟨z.1, z.2.2⟩⟩⟩
theorem sw_deepest {a b : Nat} (h : sw_Iv T c E O A) (ha : a < 10) (hb : b < 10) (ta : T.testBit a = true) (tb : T.testBit b = true) (h2 : ∀ s, sw_Pt T E (E (a * 4)) (E (b * 4 + 2)) s → 2 ≤ sw_cn s.testBit 10) (H : ∀ w, 2 ≤ w → w ≤ 10 → pr (nI w)) :
    wpX_deepest pr (nI T, nI c, sw_lf E, sw_lf O, sw_lf A) := by
  have hE := h.2.2.1
  unfold wpX_deepest
  dsimp only
  refine pk_loop (σ := Nat) (fun n i w => wX_deepest_4 pr (nI T) (nI c) (sw_lf E) (sw_lf O) (sw_lf A) n (nI w) (nI i)) (fun i w => w ≤ 10 ∧ (10 * a + b < i → 2 ≤ w)) 100 0 0 (by omega) ⟨by omega, fun z => absurd z (by omega)⟩ ?_ ?_
  · intro n w hI
    exact pk_le 100 100 (fun _ => H w (hI.2 (by omega)) hI.1) (fun z => absurd z (by omega))
  · intro n i w hi hI hw
    have d1 : nI i / 10 = nI (i / 10) := pk_div (d := 10) (by omega) (by omega) (by omega)
    have r1 : nI i - nI i / 10 * 10 = nI (i % 10) := pk_rem (d := 10) (by omega) (by omega) (by omega)
    have j0 : nI (i / 10) * 4 = nI (i / 10 * 4) := pk_mul (i / 10) 4
    have j1 : nI (i % 10) * 4 + 2 = nI (i % 10 * 4 + 2) := by
      rw [show nI (i % 10) * 4 = nI (i % 10 * 4) from pk_mul (i % 10) 4]
      exact nI_add (i % 10 * 4) 2
    refine pk_le 100 i (fun z => absurd z (by omega)) (fun _ => ⟨by decide, nm_r d1 ⟨by decide, nm_r r1 ?_⟩⟩)
    refine sw_isT h.1 (by omega) (fun t1 => br_f (by decide) (sw_isT h.1 (by omega) (fun t2 => br_f (by decide) ?_) (fun t2 => br_t rfl (nm_r (nI_1 i) (hw w ⟨hI.1, fun z => ?_⟩))))) (fun t1 => br_t rfl (nm_r (nI_1 i) (hw w ⟨hI.1, fun z => ?_⟩)))
    · rw [j0, j1, nI_clamp (show i / 10 * 4 < 2 ^ 31 by omega), nI_clamp (show i % 10 * 4 + 2 < 2 ^ 31 by omega)]
      refine ⟨vp_in_nI (by omega) (by omega), vp_in_nI (by omega) (by omega), sw_at h (hE _) (hE _) (fun s hs => sw_ones hs.1 ?_)⟩
      have bs := sw_cn_le s.testBit 10
      have b1 := hI.1
      have key : i = 10 * a + b → 2 ≤ sw_cn s.testBit 10 := fun z => by
        rw [show i / 10 = a by omega, show i % 10 = b by omega] at hs
        exact h2 s hs
      refine pk_le (sw_cn s.testBit 10) w (fun y => nm_r (nI_1 i) (hw w ⟨hI.1, fun z => ?_⟩)) (fun y => nm_r (nI_1 i) (hw _ ⟨bs, fun z => ?_⟩))
      · by_cases g : i = 10 * a + b
        · have := key g; omega
        · exact hI.2 (by omega)
      · by_cases g : i = 10 * a + b
        · exact key g
        · have := hI.2 (by omega); omega
    · refine hI.2 ?_
      by_cases g : i = 10 * a + b
      · rw [show i % 10 = b by omega, tb] at t2
        exact absurd t2 (by decide)
      · omega
    · refine hI.2 ?_
      by_cases g : i = 10 * a + b
      · rw [show i / 10 = a by omega, ta] at t1
        exact absurd t1 (by decide)
      · omega
end
end
section
/-! ===== edge, within; the law's checks ===== -/
section
variable {pr : Int32 → Prop} {T c : Nat} {E O A : Nat → Nat}
theorem sw_edge {cn : Int32} {a2 a3 : Nat → Int32} {k w : Nat} (hT : T < 1024) (hk : k < 10) (tk : T.testBit k = true) (hw : w < 4) (h : pr (nI (E (k * 4 + w)))) : wpX_edge pr (nI T, cn, sw_lf E, a2, a3) (nI k) (nI w) := by
  have ix : nI k * 4 + nI w = nI (k * 4 + w) := by
    rw [show nI k * 4 = nI (k * 4) from pk_mul k 4, nI_add]
  unfold wpX_edge
  dsimp only
  rw [ix, nI_clamp (by omega)]
  exact sw_isT hT hk (fun _ => br_f (by decide) (br_f (nI_pos (by omega)) (pk_lt 3 w (fun z => absurd z (by omega)) (fun _ => ⟨vp_in_nI (by omega) (by omega), h⟩)))) (fun z => absurd z (by rw [tk]; decide))
theorem sw_within {cn : Int32} {a2 a3 : Nat → Int32} {a b : Nat} (hT : T < 1024) (hE : ∀ j, E j ≤ 1000) (ha : a < 10) (hb : b < 10) (h0 : pr 0)
    (h1 : T.testBit a = true → T.testBit b = true → a ≠ b → (∀ x, x < 2 → E (b * 4 + 2 * x) ≤ E (a * 4 + 2 * x) ∧ E (a * 4 + 2 * x + 1) ≤ E (b * 4 + 2 * x + 1)) → pr 1) : wpX_within pr (nI T, cn, sw_lf E, a2, a3) (nI a) (nI b) := by
  have i0 : ∀ k, nI k * 4 = nI (k * 4) := fun k => pk_mul k 4
  have i1 : ∀ k, nI (k * 4) + 1 = nI (k * 4 + 1) := fun k => nI_1 _
  have i2 : ∀ k, nI (k * 4) + 2 = nI (k * 4 + 2) := fun k => nI_add (k * 4) 2
  have i3 : ∀ k, nI (k * 4) + 3 = nI (k * 4 + 3) := fun k => nI_add (k * 4) 3
  have v : ∀ k w, k < 10 → w < 4 → vp_in (nI (k * 4 + w)) 40 := fun k w hk hw => vp_in_nI (by omega) (by omega)
  have cl : ∀ k w, k < 10 → w < 4 → (nI (k * 4 + w)).toNatClampNeg = k * 4 + w := fun k w hk hw => nI_clamp (by omega)
  have cl0 : ∀ k, k < 10 → (nI (k * 4)).toNatClampNeg = k * 4 := fun k hk => nI_clamp (by omega)
  have z70 : ∀ w, w = 0 → wX_within_70 pr (nI a) (nI b) w (nI T) cn (sw_lf E) a2 a3 := by
    intro w ew
    unfold wX_within_70
    exact br_t ew h0
  have bE : ∀ j, E j < 2 ^ 31 := fun j => by have := hE j; omega
  unfold wpX_within
  dsimp only
  refine sw_isT hT ha (fun ta => br_f (by decide) (sw_isT hT hb (fun tb => br_f (by decide) (pk_eq a b (fun _ => h0) (fun hab => ?_))) (fun _ => br_t rfl h0))) (fun _ => br_t rfl h0)
  rw [i0, i0, i1, i1, cl0 a ha, cl0 b hb, cl a 1 ha (by omega), cl b 1 hb (by omega)]
  refine ⟨v a 0 ha (by omega), v b 0 hb (by omega), pk_lt (E (a * 4)) (E (b * 4)) (fun _ => z70 0 rfl) (fun g1 => ⟨v a 1 ha (by omega), v b 1 hb (by omega), pk_lt (E (b * 4 + 1)) (E (a * 4 + 1)) (fun _ => z70 0 rfl) (fun g2 => ?_) rfl rfl (bE _) (bE _)⟩) rfl rfl (bE _) (bE _)⟩
  unfold wX_within_70
  rw [i0, i0, i2, i2, i3, i3, cl a 2 ha (by omega), cl b 2 hb (by omega), cl a 3 ha (by omega), cl b 3 hb (by omega)]
  refine br_f (by decide) ⟨v a 2 ha (by omega), v b 2 hb (by omega), pk_lt (E (a * 4 + 2)) (E (b * 4 + 2)) (fun _ => h0) (fun g3 => ⟨v a 3 ha (by omega), v b 3 hb (by omega), pk_lt (E (b * 4 + 3)) (E (a * 4 + 3)) (fun _ => h0) (fun g4 => h1 ta tb hab (fun x hx => ?_)) rfl rfl (bE _) (bE _)⟩) rfl rfl (bE _) (bE _)⟩
  have e : x = 0 ∨ x = 1 := by omega
  rcases e with e | e
  · subst e
    exact ⟨g1, g2⟩
  · subst e
    exact ⟨g3, g4⟩
/-- a pair: two boxes at the greatest of their lows -/
theorem sw_two {a b : Nat} (h : sw_Iv T c E O A) (ha : a < 10) (hb : b < 10) (hab : (sw_N A a).testBit b = true) (H : ∀ w, 2 ≤ w → w ≤ 10 → pr (nI w)) : wpX_deepest pr (nI T, nI c, sw_lf E, sw_lf O, sw_lf A) := by
  obtain ⟨g1, ta, tb, g4⟩ := (sw_Nt h ha hb).mp hab
  have la0 : E (a * 4) ≤ E (a * 4 + 1) := (h.2.2.2 0 (by omega)).2 a ha ta
  have lb0 : E (b * 4) ≤ E (b * 4 + 1) := (h.2.2.2 0 (by omega)).2 b hb tb
  have la1 : E (a * 4 + 2) ≤ E (a * 4 + 3) := (h.2.2.2 1 (by omega)).2 a ha ta
  have lb1 : E (b * 4 + 2) ≤ E (b * 4 + 3) := (h.2.2.2 1 (by omega)).2 b hb tb
  have p0 : E (a * 4) ≤ E (b * 4 + 1) ∧ E (b * 4) ≤ E (a * 4 + 1) := g4 0 (by omega)
  have p1 : E (a * 4 + 2) ≤ E (b * 4 + 3) ∧ E (b * 4 + 2) ≤ E (a * 4 + 3) := g4 1 (by omega)
  have both : ∀ x y s, sw_Pt T E x y s → (E (a * 4) ≤ x ∧ x ≤ E (a * 4 + 1)) → (E (b * 4) ≤ x ∧ x ≤ E (b * 4 + 1)) → (E (a * 4 + 2) ≤ y ∧ y ≤ E (a * 4 + 3)) → (E (b * 4 + 2) ≤ y ∧ y ≤ E (b * 4 + 3)) → 2 ≤ sw_cn s.testBit 10 := by
    intro x y s hs q1 q2 q3 q4
    have sa := (hs.2 a ha).mpr ⟨ta, q1, q3⟩
    have sb := (hs.2 b hb).mpr ⟨tb, q2, q4⟩
    rcases Nat.lt_or_gt_of_ne g1 with g | g
    · exact sw_cn_two sa sb g hb
    · exact sw_cn_two sb sa g ha
  rcases Nat.le_total (E (a * 4)) (E (b * 4)) with u | u <;> rcases Nat.le_total (E (a * 4 + 2)) (E (b * 4 + 2)) with w | w
  · exact sw_deepest (a := b) (b := b) h hb hb tb tb (fun s hs => both _ _ s hs (by omega) (by omega) (by omega) (by omega)) H
  · exact sw_deepest (a := b) (b := a) h hb ha tb ta (fun s hs => both _ _ s hs (by omega) (by omega) (by omega) (by omega)) H
  · exact sw_deepest (a := a) (b := b) h ha hb ta tb (fun s hs => both _ _ s hs (by omega) (by omega) (by omega) (by omega)) H
  · exact sw_deepest (a := a) (b := a) h ha ha ta ta (fun s hs => both _ _ s hs (by omega) (by omega) (by omega) (by omega)) H
theorem sw_l117 (h : sw_Iv T c E O A) (H : pr 1) : ∃ n, wL_listed_117 pr (nI (sw_K (sw_N A) 100)) (nI (sw_K (sw_N A) 100)) (nI T) (nI c) (sw_lf E) (sw_lf O) (sw_lf A) n 0 0 := by
  have hN := sw_Ng_ok h
  have b := sw_K_45 (sw_N A)
  have bT := sw_cn_le T.testBit 10
  refine pk_loop (σ := Unit) (fun n i _ => wL_listed_117 pr (nI (sw_K (sw_N A) 100)) (nI (sw_K (sw_N A) 100)) (nI T) (nI c) (sw_lf E) (sw_lf O) (sw_lf A) n (nI (sw_sm (fun a => sw_cn (sw_N A a).testBit 10) i)) (nI i)) (fun _ _ => True) 10 0 () (by omega) trivial ?_ ?_
  · intro n _ _
    refine pk_le 10 10 (fun _ => ?_) (fun z => absurd z (by omega))
    have e : sw_sm (fun a => sw_cn (sw_N A a).testBit 10) 10 = 2 * sw_K (sw_N A) 100 := sw_S_2K hN
    have e2 : 2 * nI (sw_K (sw_N A) 100) = nI (2 * sw_K (sw_N A) 100) := pk_mul 2 _
    unfold wpX_boxes
    dsimp only
    refine sw_bits h.1 (br_t rfl (br_t (by rw [e, e2]) (sw_clusters h.1 hN (fun m hm => pk_lt (sw_cn T.testBit 10) m (fun z => absurd z (by omega)) (fun _ => pk_eq (sw_K (sw_N A) 100) 0 (fun _ => H) (fun k0 => ?_))))))
    obtain ⟨p, hp, hb⟩ := sw_cn_ex 100 k0
    unfold sw_hp at hb
    rw [Bool.and_eq_true] at hb
    exact sw_two h (a := p / 10) (b := p % 10) (by omega) (by omega) hb.2 (fun w w1 w2 => pk_lt w 2 (fun z => absurd z (by omega)) (fun _ => H))
  · intro n i _ hi _ hw
    exact pk_le 10 i (fun z => absurd z (by omega)) (fun _ => sw_partners h.1 hN hi (sw_bits (hN.1 i hi) (nm_r (nI_add _ _) (nm_r (nI_1 i) (hw () trivial)))))
theorem sw_neg1 : ∀ n, n < 100 → ¬ nI n = -1 ∧ ¬ nI n ≤ -1 := by decide +kernel
theorem sw_listed (h : sw_Iv T c E O A) (H : pr 1) : wpL_listed pr (nI T, nI c, sw_lf E, sw_lf O, sw_lf A) := by
  have hN := sw_Ng_ok h
  have b := sw_K_45 (sw_N A)
  unfold wpL_listed
  dsimp only
  refine sw_pairs h.1 hN ?_
  refine pk_loop (σ := Int32 × Nat) (fun n i s => wL_listed_12 pr (nI (sw_K (sw_N A) 100)) (nI T) (nI c) (sw_lf E) (sw_lf O) (sw_lf A) n s.1 (nI s.2) (nI i)) (fun i s => s.2 = min i (sw_K (sw_N A) 100) ∧ (s.1 = -1 ∨ ∃ q, q < 100 ∧ s.1 = nI q ∧ sw_K (sw_N A) (q + 1) ≤ i)) 46 0 (-1, 0) (by omega) ⟨(Nat.zero_min _).symm, Or.inl rfl⟩ ?_ ?_
  · intro n s hI
    refine pk_le 46 46 (fun _ => ?_) (fun z => absurd z (by omega))
    have e : s.2 = sw_K (sw_N A) 100 := by rw [hI.1]; omega
    rw [e]
    exact sw_l117 h H
  · intro n i s hi hI hw
    obtain ⟨l, m⟩ := s
    obtain ⟨i1, i2⟩ := hI
    dsimp only at i1 i2
    refine pk_le 46 i (fun z => absurd z (by omega)) (fun _ => sw_pair h.1 hN hi (fun p hp h1 h2 => ?_) (fun hK => ?_))
    · have k1 : sw_K (sw_N A) (p + 1) = sw_K (sw_N A) p + 1 := by
        show sw_cn (sw_hp (sw_N A)) p + (sw_hp (sw_N A) p).toNat = _
        rw [sw_tn1 h1]
        rfl
      have k2 : sw_K (sw_N A) (p + 1) ≤ sw_K (sw_N A) 100 := sw_cn_up _ 100 hp
      have hb := h1
      unfold sw_hp at hb
      rw [Bool.and_eq_true, decide_eq_true_iff] at hb
      have d1 : nI p / 10 = nI (p / 10) := pk_div (d := 10) (by omega) (by omega) (by omega)
      have r1 : nI p - nI p / 10 * 10 = nI (p % 10) := pk_rem (d := 10) (by omega) (by omega) (by omega)
      have last : ¬ nI p ≤ l := by
        rcases i2 with g | ⟨q, hq, g, hq2⟩
        · rw [g]
          exact (sw_neg1 p hp).2
        · rw [g]
          refine nI_ge (a := q) (b := p) ?_ (by omega)
          rcases Nat.lt_or_ge q p with y | y
          · exact y
          · have : sw_K (sw_N A) (p + 1) ≤ sw_K (sw_N A) (q + 1) := sw_cn_up _ (q + 1) (by omega)
            omega
      have w := hw (nI p, m + 1) ⟨by show m + 1 = _; omega, Or.inr ⟨p, hp, rfl, by omega⟩⟩
      refine br_f (sw_neg1 p hp).1 (pk_le (sw_K (sw_N A) 100) i (fun z => absurd z (by omega)) (fun _ => br_f last (pk_le p 89 (fun _ => ⟨by decide, nm_r d1 ⟨by decide, nm_r r1 (pk_le (p % 10) (p / 10) (fun z => absurd z (by omega)) (fun _ => sw_partners h.1 hN (by omega) ?_))⟩⟩) (fun z => absurd z (by omega)))))
      have bm := hN.1 (p / 10) (by omega)
      rw [sw_bit (by omega) (by omega), hb.2]
      exact br_f (by decide) (nm_r (nI_1 m) (nm_r (nI_1 i) w))
    · refine br_t rfl (pk_le (sw_K (sw_N A) 100) i (fun _ => nm_r (nI_1 i) (hw (l, m) ⟨by show m = _; omega, ?_⟩)) (fun z => absurd z (by omega)))
      rcases i2 with g | ⟨q, hq, g, hq2⟩
      · exact Or.inl g
      · exact Or.inr ⟨q, hq, g, by omega⟩
theorem sw_cl0 {N : Nat → Nat} {C b : Nat} (hN : sw_Ng T N) (hC : sw_cd N C) (hb : b < 10) (tb : C.testBit b = true) : sw_cl (N b) C = 0 := by
  refine sw_zero (sw_cl_lt (hN.1 b hb)) (fun j hj => ?_)
  rw [sw_cl_b (hN.1 b hb)]
  cases e : (N b).testBit j with
  | false => rfl
  | true =>
    rw [hC b j hb hj tb e]
    rfl
theorem sw_b94 {a C : Nat} (h : sw_Iv T c E O A) (ha : a < 10) (hC : C < 1024) (hcd : sw_cd (sw_N A) C) (H : pr 1) : ∃ n, wL_boxHolds_94 pr (nI a) (nI (sw_N A a)) (nI C) (nI T) (nI c) (sw_lf E) (sw_lf O) (sw_lf A) n 0 := by
  have hN := sw_Ng_ok h
  have bm := hN.1 a ha
  refine pk_loop (σ := Unit) (fun n i _ => wL_boxHolds_94 pr (nI a) (nI (sw_N A a)) (nI C) (nI T) (nI c) (sw_lf E) (sw_lf O) (sw_lf A) n (nI i)) (fun _ _ => True) 10 0 () (by omega) trivial ?_ ?_
  · intro n _ _
    exact pk_le 10 10 (fun _ => H) (fun z => absurd z (by omega))
  · intro n i _ hi _ hw
    have w := hw () trivial
    have bi := hN.1 i hi
    have wi : wL_boxHolds_147 pr (wL_boxHolds_94 pr (nI a) (nI (sw_N A a)) (nI C) (nI T) (nI c) (sw_lf E) (sw_lf O) (sw_lf A) n) (nI a) (nI (sw_N A a)) (nI C) (nI i) (nI T) (nI c) (sw_lf E) (sw_lf O) (sw_lf A) := by
      unfold wL_boxHolds_147
      rw [sw_bit (by omega) (by omega)]
      refine sw_within h.1 h.2.2.1 ha hi (br_t rfl (nm_r (nI_1 i) w)) (fun ta tb hab hin => br_f (by decide) ?_)
      have e : (sw_N A a).testBit i = true := by
        refine (sw_Nt h ha hi).mpr ⟨hab, ta, tb, fun x hx => ?_⟩
        have l1 := (h.2.2.2 x hx).2 a ha ta
        have l2 := (h.2.2.2 x hx).2 i hi tb
        have l3 := hin x hx
        omega
      rw [e]
      exact br_f (by decide) (nm_r (nI_1 i) w)
    refine pk_le 10 i (fun z => absurd z (by omega)) (fun _ => sw_partners h.1 hN hi ?_)
    rw [sw_bit (by omega) (by omega), sw_bit (by omega) (by omega), sw_bit (by omega) (by omega), sw_ncl]
    refine br_t (by rw [hN.2.1 a i ha hi]) ?_
    cases e : C.testBit i with
    | false => exact br_f (by decide) wi
    | true =>
      rw [sw_cl0 hN hcd hi e]
      exact br_t (by decide) (br_t (by decide) wi)
theorem sw_boxHolds {a : Nat} (h : sw_Iv T c E O A) (ha : a < 10) (H : pr 1) : wpL_boxHolds pr (nI T, nI c, sw_lf E, sw_lf O, sw_lf A) (nI a) := by
  have hN := sw_Ng_ok h
  have bm := hN.1 a ha
  have hE := h.2.2.1
  unfold wpL_boxHolds
  dsimp only
  refine sw_partners h.1 hN ha (sw_cluster h.1 hN ha (fun ta => ?_) (fun ta C hC hCa hcd => ?_))
  · unfold wpX_boxes
    dsimp only
    rw [sw_bit (by have := h.1; omega) (by omega), ta, sw_N0 hN ha ta]
    exact br_t (by decide) (br_t (by decide) (br_t (by decide) H))
  · unfold wpX_boxes
    dsimp only
    rw [sw_bit (show T < 2 ^ 31 by have := h.1; omega) (by omega), ta]
    refine br_f (by decide) (sw_edge (w := 0) h.1 ha ta (by omega) (sw_edge (w := 2) h.1 ha ta (by omega) (sw_at h (hE _) (hE _) (fun s hs => ?_))))
    have l0 : E (a * 4) ≤ E (a * 4 + 1) := (h.2.2.2 0 (by omega)).2 a ha ta
    have l1 : E (a * 4 + 2) ≤ E (a * 4 + 3) := (h.2.2.2 1 (by omega)).2 a ha ta
    have sa : s.testBit a = true := (hs.2 a ha).mpr ⟨ta, ⟨Nat.le_refl _, l0⟩, ⟨Nat.le_refl _, l1⟩⟩
    have bs := hs.1
    rw [sw_bit (show sw_N A a < 2 ^ 31 by omega) (by omega), sw_bit (show C < 2 ^ 31 by omega) (by omega), sw_bit (show s < 2 ^ 31 by omega) (by omega), hN.2.2.1 a ha, hCa, sa]
    exact br_f (by decide) (br_f (by decide) (br_f (by decide) (sw_b94 h ha hC hcd H)))
end
end
section
/-! ===== the law ===== -/
section
variable {pr : Int32 → Prop} {L : Nat} {xs : Nat → Int32}
theorem sw_pick {p n : Nat} (hL : L ≤ 260) (hp : p < 2 ^ 31) (h0 : 0 < n) (hn : n < 2 ^ 31) (H : ∀ r, r < n → pr (nI r)) : wpL_pick pr L xs () (nI p) (nI n) := by
  have key : ∀ z : Int32, pr ((z &&& 2147483647) - (z &&& 2147483647) / nI n * nI n) := by
    intro z
    obtain ⟨j, hj, e⟩ := pk_andE z (m := 2147483647) 31 (by decide)
    rw [e, pk_rem hj h0 hn]
    exact H _ (Nat.mod_lt _ h0)
  unfold wpL_pick
  refine pk_le L p (fun z => ⟨nI_ne0 h0 hn, key 0⟩) (fun z => ⟨vp_in_nI z (by omega), fun x _ => ⟨nI_ne0 h0 hn, key x⟩⟩)
theorem sw_span {v : Nat} (hv : v < 10000) (H : ∀ z, z < 10000 → z % 100 ≤ z / 100 → pr (nI z)) : wpL_span pr () (nI v) := by
  have d1 : nI v / 100 = nI (v / 100) := pk_div (d := 100) (by omega) (by omega) (by omega)
  have r1 : nI v - nI v / 100 * 100 = nI (v % 100) := pk_rem (d := 100) (by omega) (by omega) (by omega)
  have m : ∀ a b, nI a + 100 * nI b = nI (a + 100 * b) := fun a b => by
    rw [show 100 * nI b = nI (100 * b) from pk_mul 100 b, nI_add]
  have H' : ∀ a b, a < 100 → b < 100 → a ≤ b → pr (nI (a + 100 * b)) := fun a b ha hb hab => by
    have e1 : (a + 100 * b) / 100 = b := by omega
    have e2 : (a + 100 * b) % 100 = a := by omega
    exact H _ (by omega) (by rw [e1, e2]; exact hab)
  unfold wpL_span
  refine ⟨by decide, nm_r r1 ⟨by decide, nm_r d1 (pk_le (v / 100) (v % 100) (fun z => ?_) (fun z => ?_))⟩⟩
  · rw [m]
    exact H' _ _ (by omega) (by omega) (by omega)
  · rw [m]
    exact H' _ _ (by omega) (by omega) (by omega)
end
section
variable {post : Int32 → Prop} {L : Nat} {xs : Nat → Int32} {J : Int32 → Int32 → Int32 → (Nat → Int32) → (Nat → Int32) → (Nat → Int32) → Prop} {x2 : Int32} {kc ks T c : Nat} {E O A : Nat → Nat}
theorem sw_135 (h : sw_Iv T c E O A) (H : J (x2 + 4) (nI T) (nI c) (sw_lf E) (sw_lf O) (sw_lf A)) : ∃ n, wL_law_135 post L xs J x2 kc ks (nI T) (nI c) (sw_lf E) (sw_lf O) (sw_lf A) n 0 := by
  refine pk_loop (σ := Unit) (fun n i _ => wL_law_135 post L xs J x2 kc ks (nI T) (nI c) (sw_lf E) (sw_lf O) (sw_lf A) n (nI i)) (fun _ _ => True) 10 0 () (by omega) trivial ?_ ?_
  · intro n _ _
    exact pk_le 10 10 (fun _ => nm_e H) (fun z => absurd z (by omega))
  · intro n i _ hi _ hw
    exact pk_le 10 i (fun z => absurd z (by omega)) (fun _ => sw_boxHolds h hi (br_f (by decide) (nm_r (nI_1 i) (hw () trivial))))
theorem sw_123 (h : sw_Iv T c E O A) (H : J (x2 + 4) (nI T) (nI c) (sw_lf E) (sw_lf O) (sw_lf A)) : wL_law_123 post L xs J x2 kc ks (nI T) (nI c) (sw_lf E) (sw_lf O) (sw_lf A) := by
  unfold wL_law_123
  exact sw_listed h (br_f (by decide) (sw_135 h H))
end
theorem sw_l10 {L : Nat} {xs : Nat → Int32} {kc ks : Nat} (hL : L ≤ 260) : ∀ (n i T c : Nat) (E O A : Nat → Nat), L + 4 ≤ 4 * n + i → i < L + 4 → sw_In T c E O A →
    wL_law_10 (fun r => r = 1) L xs kc ks n (nI i) (nI T) (nI c) (sw_lf E) (sw_lf O) (sw_lf A) := by
  intro n
  induction n with
  | zero =>
    intro i T c E O A h1 h2
    omega
  | succ n ih =>
    intro i T c E O A h1 h2 h
    have i1 : nI i + 1 = nI (i + 1) := nI_1 i
    have i2 : nI i + 2 = nI (i + 2) := nI_add i 2
    have i3 : nI i + 3 = nI (i + 3) := nI_add i 3
    have i4 : nI i + 4 = nI (i + 4) := nI_add i 4
    have K : i < L → ∀ T' c' E' O' A', sw_In T' c' E' O' A' → wL_law_123 (fun r => r = 1) L xs (wL_law_10 (fun r => r = 1) L xs kc ks n) (nI i) kc ks (nI T') (nI c') (sw_lf E') (sw_lf O') (sw_lf A') := by
      intro hi T' c' E' O' A' h'
      refine sw_123 h'.1 ?_
      rw [i4]
      exact ih (i + 4) T' c' E' O' A' (by omega) (by omega) h'
    refine pk_le L i (fun _ => rfl) (fun hi => ?_)
    rw [i1, i2, i3]
    refine sw_pick (n := 8) hL (by omega) (by omega) (by omega) (fun op hop => sw_pick (n := 10) hL (by omega) (by omega) (by omega) (fun k hk => sw_pick (n := 10000) hL (by omega) (by omega) (by omega) (fun x hx => sw_pick (n := 10000) hL (by omega) (by omega) (by omega) (fun y hy => ?_))))
    refine pk_lt 4 op (fun _ => pk_lt 6 op (fun _ => ?_) (fun _ => ?_)) (fun _ => ?_)
    · exact sw_remove h hk (fun r T' c' E' O' A' h' => K hi T' c' E' O' A' h')
    · refine ⟨by decide, by decide, ?_⟩
      have r1 : nI x - nI x / 100 * 100 = nI (x % 100) := pk_rem (d := 100) (by omega) (by omega) (by omega)
      have r2 : nI y - nI y / 100 * 100 = nI (y % 100) := pk_rem (d := 100) (by omega) (by omega) (by omega)
      rw [r1, r2]
      exact sw_move h hk (by omega) (by omega) (fun r T' c' E' O' A' h' => K hi T' c' E' O' A' h')
    · exact sw_span hx (fun x' hx1 hx2 => sw_span hy (fun y' hy1 hy2 => sw_put h hk hx1 hy1 hx2 hy2 (fun r T' c' E' O' A' h' => K hi T' c' E' O' A' h')))
theorem sw_start : sw_In 0 0 (fun _ => 0) (fun _ => 0) (fun _ => 0) := by
  have t0 : ∀ j, ¬ (0 : Nat).testBit j = true := fun j => by rw [Nat.zero_testBit]; decide
  refine ⟨⟨by omega, by decide, fun _ => Nat.zero_le _, fun x hx => ⟨⟨fun _ => 0, ⟨fun i hi => absurd hi (by omega), fun e _ te => absurd te (t0 _)⟩, fun k _ tk => absurd tk (t0 _), fun a b _ _ => ⟨fun z => absurd z (t0 _), fun z => absurd z.2.1 (t0 _)⟩, fun e f _ _ _ _ te _ _ => absurd te (t0 _), fun _ => Nat.zero_lt_succ _, fun _ => Nat.zero_lt_succ _, fun _ _ _ _ _ => rfl, fun _ _ _ _ _ _ _ => rfl⟩, fun k _ tk => absurd tk (t0 _)⟩⟩, fun j _ _ tj => absurd tj (t0 _)⟩
theorem i_vc (xs : Nat → Int32) (L : Nat) (hL : L ≤ 260) : wpL_law (fun r => r = 1) L xs := by
  refine ⟨3, 100, by omega, by omega, by omega, by omega, by omega, by omega, by omega, by omega, ⟨L + 2, ?_⟩⟩
  exact sw_l10 hL (L + 2) 0 0 0 (fun _ => 0) (fun _ => 0) (fun _ => 0) (by omega) (by omega) sw_start
end
