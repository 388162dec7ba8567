section
/-! Pasted from kit/rows (starting texts): down to the next head -/
theorem pk_us {f : Nat → Int32} {k : Nat} {x : Int32} : upd f k x k = x := if_pos rfl
theorem pk_un {f : Nat → Int32} {k j : Nat} {x : Int32} (h : j ≠ k) : upd f k x j = f j := if_neg h
theorem pk_m1 (n : Nat) : nI (n + 1) + (-1) = nI n := by
  rw [← nI_1, Int32.add_assoc, show (1 : Int32) + (-1) = 0 from rfl, Int32.add_zero]
theorem pk_tn {n : Nat} (h : n < 2 ^ 32) : (nI n).toBitVec.toNat = n := Nat.mod_eq_of_lt h
theorem pk_char (x : Int32) : (x.toUInt32 % 65536).toInt32 = nI (x.toBitVec.toNat % 65536) := by
  apply Int32.toBitVec_inj.mp
  apply BitVec.eq_of_toNat_eq
  rw [pk_tn (by omega)]
  show (x.toUInt32 % 65536).toNat = _
  rw [UInt32.toNat_mod]
  rfl
theorem em_w (v : Int32) : ∃ w : Nat, w < 65536 ∧ (v.toUInt32 % 65536).toInt32 = nI w ∧ v &&& 65535 = nI w := by
  have hr := lw_u16_r v
  have h0 : (0 : Int32).toInt = 0 := by decide
  obtain ⟨w, h1, h2⟩ := nI_of (x := lw_u16 v) (by rw [Int32.lt_iff_toInt_lt]; omega)
  have h3 : (v.toUInt32 % 65536).toInt32 = nI w := h2
  rw [h2, nI_toInt h1] at hr
  exact ⟨w, by omega, h3, by rw [← lg_i2c_mask, ← lg_i2c_nf, h3]⟩
theorem wb_tb (n : Nat) : (lN n).toBitVec = BitVec.ofNat 64 n := rfl
theorem wb_inj {a b : Int64} (h : a.toBitVec = b.toBitVec) : a = b := Int64.toBitVec_inj.mp h
theorem wb_of (x : Int64) : ∃ n, n < 2 ^ 64 ∧ x = lN n := ⟨x.toBitVec.toNat, x.toBitVec.isLt, wb_inj (by rw [wb_tb]; simp)⟩
theorem wb_lt2 {a b : Nat} (h : a < b) : 2 ^ a < 2 ^ b := Nat.pow_lt_pow_right (by decide) h
theorem wb_and {a b : Nat} (ha : a < 2 ^ 64) (hb : b < 2 ^ 64) : lN a &&& lN b = lN (a &&& b) := by
  apply wb_inj
  rw [Int64.toBitVec_and, wb_tb, wb_tb, wb_tb]
  apply BitVec.eq_of_toNat_eq
  rw [BitVec.toNat_and, BitVec.toNat_ofNat, BitVec.toNat_ofNat, BitVec.toNat_ofNat, Nat.mod_eq_of_lt ha, Nat.mod_eq_of_lt hb, Nat.mod_eq_of_lt (Nat.and_lt_two_pow _ hb)]
theorem wb_mask {n k : Nat} (hn : n < 2 ^ 64) (hk : k < 64) : lN n &&& lN (2 ^ k - 1) = lN (n % 2 ^ k) := by
  rw [wb_and hn (by have := wb_lt2 hk; omega), Nat.and_two_pow_sub_one_eq_mod]
/-! Own rows: numbers -/
theorem bc_mask (v : Int32) : v &&& 65535 = (v.toUInt32 % 65536).toInt32 := by
  obtain ⟨w, _, h1, h2⟩ := em_w v
  rw [h1, h2]
theorem bc_idem (v : Int32) : (((v.toUInt32 % 65536).toInt32).toUInt32 % 65536).toInt32 = (v.toUInt32 % 65536).toInt32 := by
  rw [pk_char v, pk_char, pk_tn (by omega), Nat.mod_mod]
theorem bc_char (x : Int64) : x &&& 65535 = ((x.toInt32.toUInt32 % 65536).toInt32).toInt64 := by
  obtain ⟨n, hn, rfl⟩ := wb_of x
  rw [pk_char, nI_l (by omega), lN_i]
  have h1 : (nI n).toBitVec.toNat = n % 2 ^ 32 := rfl
  have h2 : lN n &&& 65535 = lN (n % 2 ^ 16) := wb_mask (k := 16) hn (by decide)
  rw [h1, h2]
  exact congrArg lN (by omega)
theorem bc_x0 {a b : Int32} : (a ^^^ b).toInt64 = 0 ↔ a = b := by
  constructor
  · intro h
    have h1 : (a ^^^ b).toInt64.toInt32 = (0 : Int64).toInt32 := by rw [h]
    rw [Int32.toInt32_toInt64] at h1
    exact Int32.xor_eq_zero_iff.mp h1
  · intro h
    rw [h, Int32.xor_self]
    rfl
theorem bc_lx0 {a b : Int64} : a ^^^ b = 0 ↔ a = b := Int64.xor_eq_zero_iff
theorem bc_a4 (j : Nat) : (4 : Int32) + nI j = nI (4 + j) := nI_add 4 j
theorem bc_a8 (j : Nat) : (8 : Int32) + nI j = nI (8 + j) := nI_add 8 j
theorem bc_a12 (j : Nat) : (12 : Int32) + nI j = nI (12 + j) := nI_add 12 j
theorem bc_n4 {j : Nat} (h : j < 4) : ¬ (4 : Int32) ≤ nI j := nI_ge (b := 4) h (by decide)
/-- x holds the number of cells that count: m, or it is -1 and there are none -/
def bc_len (x : Int32) (m : Nat) : Prop := m ≤ 4 ∧ (x = nI m ∨ (x = -1 ∧ m = 0))
theorem bc_len0 : bc_len 0 0 := ⟨by decide, Or.inl rfl⟩
theorem bc_lenOf {x : Int32} (h1 : ¬ x < -1) (h2 : x ≤ 4) : ∃ m, bc_len x m := by
  by_cases h0 : x < 0
  · refine ⟨0, by decide, Or.inr ⟨?_, rfl⟩⟩
    rw [Int32.lt_iff_toInt_lt] at h0 h1
    have e0 : (0 : Int32).toInt = 0 := by decide
    have e1 : (-1 : Int32).toInt = -1 := by decide
    apply Int32.toInt_inj.mp
    omega
  · obtain ⟨j, hj, e⟩ := nI_of2 (M := 4) (n := 4) (by decide) h0 h2
    exact ⟨j, hj, Or.inl e⟩
theorem bc_lenLe {x : Int32} {m : Nat} (h : bc_len x m) {j : Nat} (hj : m ≤ j) (h4 : j ≤ 4) : x ≤ nI j := by
  obtain ⟨hm, e | ⟨e, _⟩⟩ := h
  · rw [e]; exact nI_le hj (by omega)
  · rw [e, Int32.le_iff_toInt_le, nI_toInt (by omega), show (-1 : Int32).toInt = -1 by decide]; omega
theorem bc_lenGt {x : Int32} {m : Nat} (h : bc_len x m) {j : Nat} (hj : j < m) : ¬ x ≤ nI j := by
  obtain ⟨hm, e | ⟨_, e⟩⟩ := h
  · rw [e]; exact nI_ge hj (by omega)
  · omega
/-- x counts down: j cells are left below or at it -/
def bc_dn (x : Int32) : Nat → Prop
  | 0 => x < 0
  | j + 1 => x = nI j
theorem bc_dnN (j : Nat) : bc_dn (nI j + (-1)) j := by
  cases j with
  | zero => show nI 0 + (-1) < 0; decide
  | succ j => exact pk_m1 j
theorem bc_dnL {x : Int32} {m : Nat} (h : bc_len x m) : bc_dn (x - 1) m := by
  obtain ⟨hm, e | ⟨e, e0⟩⟩ := h
  · subst e
    cases m with
    | zero => show nI 0 - 1 < 0; decide
    | succ j => exact nI_pred j
  · subst e; subst e0
    show (-1 : Int32) - 1 < 0
    decide
end
section
/-! The pure answer: code, index, xor of the first difference -/
/-- one note: it stands if it differs -/
def bc_nt (c i : Int32) (x : Int64) (s : Int32 × Int32 × Int64) : Int32 × Int32 × Int64 := if x = 0 then s else (c, i, x)
theorem bc_nt0 {c i : Int32} {x : Int64} {s : Int32 × Int32 × Int64} (h : x = 0) : bc_nt c i x s = s := if_pos h
theorem bc_nt1 {c i : Int32} {x : Int64} {s : Int32 × Int32 × Int64} (h : ¬ x = 0) : bc_nt c i x s = (c, i, x) := if_neg h
/-- the d cells of the post-state from cell j on -/
def bc_7 (e : Nat → Int64) : Nat → Nat → Int32 × Int32 × Int64
  | 0, _ => (0, -1, 0)
  | d + 1, j => bc_nt 7 (nI j) (e (4 + j) ^^^ e (12 + j)) (bc_7 e d (j + 1))
def bc_6 (aD : Nat → Int32) (e : Nat → Int64) : Int32 × Int32 × Int64 := bc_nt 6 (-1) (aD 0 ^^^ aD 1).toInt64 (bc_7 e 4 0)
/-- the d cells of the result from cell j on, then s -/
def bc_5 (s : Int32 × Int32 × Int64) (e : Nat → Int64) : Nat → Nat → Int32 × Int32 × Int64
  | 0, _ => s
  | d + 1, j => bc_nt 5 (nI j) (e j ^^^ e (8 + j)) (bc_5 s e d (j + 1))
def bc_S (aT : Nat → Int32) (aR : Nat → Int64) (aC aL aD : Nat → Int32) (e : Nat → Int64) (m : Nat) : Int32 × Int32 × Int64 :=
  bc_nt 1 (-1) (aT 0 ^^^ aT 1).toInt64 (bc_nt 2 (-1) (aR 0 ^^^ aR 1) (bc_nt 3 (-1) (aC 0 ^^^ aC 1).toInt64 (bc_nt 4 (-1) (aL 0 ^^^ aL 1).toInt64 (bc_5 (bc_6 aD e) e m 0))))
/-- a note of another code than the answer's was none -/
theorem bc_pass {c i k : Int32} {x : Int64} {s : Int32 × Int32 × Int64} (h : (bc_nt c i x s).1 = k) (hk : ¬ c = k) : bc_nt c i x s = s := by
  by_cases z : x = 0
  · exact bc_nt0 z
  · rw [bc_nt1 z] at h
    exact absurd h hk
theorem bc_5p {k : Int32} {s : Int32 × Int32 × Int64} {e : Nat → Int64} (hk : ¬ (5 : Int32) = k) : ∀ d j, (bc_5 s e d j).1 = k → bc_5 s e d j = s := by
  intro d
  induction d with
  | zero => intro j _; rfl
  | succ d ih =>
    intro j h
    have h1 : bc_5 s e (d + 1) j = bc_5 s e d (j + 1) := bc_pass h hk
    rw [h1] at h ⊢
    exact ih (j + 1) h
theorem bc_7n (e : Nat → Int64) : ∀ d j, ¬ (bc_7 e d j).1 = 5 := by
  intro d
  induction d with
  | zero => intro j; show ¬ (0 : Int32) = 5; decide
  | succ d ih =>
    intro j h
    have h1 : bc_7 e (d + 1) j = bc_7 e d (j + 1) := bc_pass h (by decide)
    rw [h1] at h
    exact ih (j + 1) h
theorem bc_6n (aD : Nat → Int32) (e : Nat → Int64) : ¬ (bc_6 aD e).1 = 5 := by
  intro h
  have h1 : bc_6 aD e = bc_7 e 4 0 := bc_pass h (by decide)
  rw [h1] at h
  exact bc_7n e 4 0 h
section
variable {aT : Nat → Int32} {aR : Nat → Int64} {aC aL aD : Nat → Int32} {e : Nat → Int64} {m : Nat}
/-- behind the first four notes -/
theorem bc_S5 {k : Int32} (h : (bc_S aT aR aC aL aD e m).1 = k) (h1 : ¬ (1 : Int32) = k) (h2 : ¬ (2 : Int32) = k) (h3 : ¬ (3 : Int32) = k) (h4 : ¬ (4 : Int32) = k) :
    bc_S aT aR aC aL aD e m = bc_5 (bc_6 aD e) e m 0 := by
  unfold bc_S at h ⊢
  have p1 := bc_pass h h1
  rw [p1] at h ⊢
  have p2 := bc_pass h h2
  rw [p2] at h ⊢
  have p3 := bc_pass h h3
  rw [p3] at h ⊢
  exact bc_pass h h4
theorem bc_S7 (h : (bc_S aT aR aC aL aD e m).1 = 7) : bc_S aT aR aC aL aD e m = bc_7 e 4 0 := by
  have h1 := bc_S5 h (by decide) (by decide) (by decide) (by decide)
  rw [h1] at h ⊢
  have h2 := bc_5p (by decide) m 0 h
  rw [h2] at h ⊢
  exact bc_pass h (by decide)
/-- what an answer can be -/
def bc_ok (aT : Nat → Int32) (aR : Nat → Int64) (aC aL aD : Nat → Int32) (e : Nat → Int64) (s : Int32 × Int32 × Int64) : Prop :=
  s = (0, -1, 0) ∨ s = (1, -1, (aT 0 ^^^ aT 1).toInt64) ∨ s = (2, -1, aR 0 ^^^ aR 1) ∨ s = (3, -1, (aC 0 ^^^ aC 1).toInt64) ∨ s = (4, -1, (aL 0 ^^^ aL 1).toInt64) ∨
  (∃ j, j < 4 ∧ s = (5, nI j, e j ^^^ e (8 + j))) ∨ s = (6, -1, (aD 0 ^^^ aD 1).toInt64) ∨ ∃ j, j < 4 ∧ s = (7, nI j, e (4 + j) ^^^ e (12 + j))
theorem bc_okN {c i : Int32} {x : Int64} {s : Int32 × Int32 × Int64} (h : bc_ok aT aR aC aL aD e (c, i, x)) (hs : bc_ok aT aR aC aL aD e s) : bc_ok aT aR aC aL aD e (bc_nt c i x s) := by
  by_cases z : x = 0
  · rw [bc_nt0 z]; exact hs
  · rw [bc_nt1 z]; exact h
theorem bc_ok7 : ∀ d j, j + d = 4 → bc_ok aT aR aC aL aD e (bc_7 e d j) := by
  intro d
  induction d with
  | zero => intro j _; exact Or.inl rfl
  | succ d ih =>
    intro j h
    exact bc_okN (Or.inr (Or.inr (Or.inr (Or.inr (Or.inr (Or.inr (Or.inr ⟨j, by omega, rfl⟩))))))) (ih (j + 1) (by omega))
theorem bc_ok6 : bc_ok aT aR aC aL aD e (bc_6 aD e) := bc_okN (Or.inr (Or.inr (Or.inr (Or.inr (Or.inr (Or.inr (Or.inl rfl))))))) (bc_ok7 4 0 rfl)
theorem bc_ok5 : ∀ d j, j + d ≤ 4 → bc_ok aT aR aC aL aD e (bc_5 (bc_6 aD e) e d j) := by
  intro d
  induction d with
  | zero => intro j _; exact bc_ok6
  | succ d ih =>
    intro j h
    exact bc_okN (Or.inr (Or.inr (Or.inr (Or.inr (Or.inr (Or.inl ⟨j, by omega, rfl⟩)))))) (ih (j + 1) (by omega))
theorem bc_okS (hm : m ≤ 4) : bc_ok aT aR aC aL aD e (bc_S aT aR aC aL aD e m) :=
  bc_okN (Or.inr (Or.inl rfl)) (bc_okN (Or.inr (Or.inr (Or.inl rfl))) (bc_okN (Or.inr (Or.inr (Or.inr (Or.inl rfl)))) (bc_okN (Or.inr (Or.inr (Or.inr (Or.inr (Or.inl rfl))))) (bc_ok5 m 0 (by omega)))))
end
end
section
/-! The reference's walk: notes from the last component to the first -/
section
variable {aT : Nat → Int32} {aR : Nat → Int64} {aC aL aD aN : Nat → Int32} {e : Nat → Int64} {m : Nat}
theorem bc_note {post : SY → Prop} {s : Int32 × Int32 × Int64} {c i : Int32} {x : Int64}
    (h : post ((bc_nt c i x s).1, (bc_nt c i x s).2.1, (bc_nt c i x s).2.2, aT, aR, aC, aL, aD, aN, e)) : wpY_note post (s.1, s.2.1, s.2.2, aT, aR, aC, aL, aD, aN, e) c i x := by
  by_cases z : x = 0
  · rw [bc_nt0 z] at h
    exact br_t z h
  · rw [bc_nt1 z] at h
    exact br_f z h
theorem bc_y82 {post : Int64 → SY → Prop}
    (hp : post (bc_S aT aR aC aL aD e m).2.2 ((bc_S aT aR aC aL aD e m).1, (bc_S aT aR aC aL aD e m).2.1, (bc_S aT aR aC aL aD e m).2.2, aT, aR, aC, aL, aD, aN, e)) :
    ∀ j d n x, j + d = m → j ≤ 4 → j < n → bc_dn x j →
      wY_diffBits_82 post n x (bc_5 (bc_6 aD e) e d j).1 (bc_5 (bc_6 aD e) e d j).2.1 (bc_5 (bc_6 aD e) e d j).2.2 aT aR aC aL aD aN e := by
  intro j
  induction j with
  | zero =>
    intro d n x hd _ hn hx
    obtain ⟨n, rfl⟩ : ∃ k, n = k + 1 := ⟨n - 1, by omega⟩
    obtain rfl : d = m := by omega
    have hx0 : x < 0 := hx
    refine br_t hx0 ?_
    refine bc_note ?_
    refine bc_note ?_
    refine bc_note ?_
    refine bc_note ?_
    exact hp
  | succ j ih =>
    intro d n x hd h4 hn hx
    obtain ⟨n, rfl⟩ : ∃ k, n = k + 1 := ⟨n - 1, by omega⟩
    have hx0 : x = nI j := hx
    subst hx0
    refine br_f (nI_pos (by omega)) ?_
    rw [bc_a8, nI_clamp (n := j) (by omega), nI_clamp (n := 8 + j) (by omega)]
    refine And.intro (vp_in_nI (by omega) (by decide)) (And.intro (vp_in_nI (by omega) (by decide)) ?_)
    refine bc_note ?_
    intro y ey
    subst ey
    exact ih (d + 1) n _ (by omega) (by omega) (by omega) (bc_dnN j)
theorem bc_y17 {post : Int64 → SY → Prop}
    (hp : ∃ n, wY_diffBits_82 post n (aL 0 - 1) (bc_6 aD e).1 (bc_6 aD e).2.1 (bc_6 aD e).2.2 aT aR aC aL aD aN e) :
    ∀ j d n x, j + d = 4 → j < n → bc_dn x j → wY_diffBits_17 post n x (bc_7 e d j).1 (bc_7 e d j).2.1 (bc_7 e d j).2.2 aT aR aC aL aD aN e := by
  intro j
  induction j with
  | zero =>
    intro d n x hd hn hx
    obtain ⟨n, rfl⟩ : ∃ k, n = k + 1 := ⟨n - 1, by omega⟩
    obtain rfl : d = 4 := by omega
    have hx0 : x < 0 := hx
    refine br_t hx0 ?_
    refine bc_note ?_
    intro y ey
    subst ey
    exact hp
  | succ j ih =>
    intro d n x hd hn hx
    obtain ⟨n, rfl⟩ : ∃ k, n = k + 1 := ⟨n - 1, by omega⟩
    have hx0 : x = nI j := hx
    subst hx0
    refine br_f (nI_pos (by omega)) ?_
    rw [bc_a4, bc_a12, nI_clamp (n := 4 + j) (by omega), nI_clamp (n := 12 + j) (by omega)]
    refine And.intro (vp_in_nI (by omega) (by decide)) (And.intro (vp_in_nI (by omega) (by decide)) ?_)
    refine bc_note ?_
    intro y ey
    subst ey
    exact ih (d + 1) n _ (by omega) (by omega) (bc_dnN j)
theorem bc_yD (hl : bc_len (aL 0) m) {f g : Int32} {y : Int64} {post : Int64 → SY → Prop}
    (hp : post (bc_S aT aR aC aL aD e m).2.2 ((bc_S aT aR aC aL aD e m).1, (bc_S aT aR aC aL aD e m).2.1, (bc_S aT aR aC aL aD e m).2.2, aT, aR, aC, aL, aD, aN, e)) :
    wpY_diffBits post (f, g, y, aT, aR, aC, aL, aD, aN, e) :=
  ⟨5, bc_y17 ⟨5, bc_y82 hp m 0 5 _ (by omega) hl.1 (by have := hl.1; omega) (bc_dnL hl)⟩ 4 0 5 3 (by omega) (by omega) rfl⟩
theorem bc_yC (hl : bc_len (aL 0) m) {f g : Int32} {y : Int64} {post : Int32 → SY → Prop}
    (hp : post (bc_S aT aR aC aL aD e m).1 ((bc_S aT aR aC aL aD e m).1, (bc_S aT aR aC aL aD e m).2.1, (bc_S aT aR aC aL aD e m).2.2, aT, aR, aC, aL, aD, aN, e)) :
    wpY_compare post (f, g, y, aT, aR, aC, aL, aD, aN, e) := by
  unfold wpY_compare
  dsimp only
  refine bc_yD hl ?_
  exact hp
theorem bc_yI (hl : bc_len (aL 0) m) {f g : Int32} {y : Int64} {post : Int32 → SY → Prop}
    (hp : post (bc_S aT aR aC aL aD e m).2.1 ((bc_S aT aR aC aL aD e m).1, (bc_S aT aR aC aL aD e m).2.1, (bc_S aT aR aC aL aD e m).2.2, aT, aR, aC, aL, aD, aN, e)) :
    wpY_diffIndex post (f, g, y, aT, aR, aC, aL, aD, aN, e) := by
  unfold wpY_diffIndex
  dsimp only
  refine bc_yD hl ?_
  exact hp
end
end
section
/-! The component's walk: from the first component to the last -/
section
variable {aT : Nat → Int32} {aR : Nat → Int64} {aC aL aD aN : Nat → Int32} {e : Nat → Int64} {m : Nat}
theorem bc_x135 {post : Int32 → Prop} : ∀ d j n, j + d = 4 → d < n → post (bc_7 e d j).1 → wX_compare_135 post aT aR aC aL aD aN e n (nI j) := by
  intro d
  induction d with
  | zero =>
    intro j n hj hn hp
    obtain ⟨n, rfl⟩ : ∃ k, n = k + 1 := ⟨n - 1, by omega⟩
    obtain rfl : j = 4 := by omega
    exact br_t (by decide) hp
  | succ d ih =>
    intro j n hj hn hp
    obtain ⟨n, rfl⟩ : ∃ k, n = k + 1 := ⟨n - 1, by omega⟩
    refine br_f (bc_n4 (by omega)) ?_
    rw [bc_a4, bc_a12, nI_clamp (n := 4 + j) (by omega), nI_clamp (n := 12 + j) (by omega)]
    refine And.intro (vp_in_nI (by omega) (by decide)) (And.intro (vp_in_nI (by omega) (by decide)) ?_)
    by_cases z : e (4 + j) = e (12 + j)
    · have h1 : bc_7 e (d + 1) j = bc_7 e d (j + 1) := bc_nt0 (bc_lx0.mpr z)
      rw [h1] at hp
      refine br_t z ?_
      intro y ey
      rw [ey, nI_1]
      exact ih (j + 1) n (by omega) (by omega) hp
    · have h1 : bc_7 e (d + 1) j = (7, nI j, e (4 + j) ^^^ e (12 + j)) := bc_nt1 (fun q => z (bc_lx0.mp q))
      rw [h1] at hp
      exact br_f z hp
theorem bc_x54 {post : Int32 → Prop} : ∀ d j n, j + d = 4 → d < n → post (bc_7 e d j).2.1 → wX_diffIndex_54 post aT aR aC aL aD aN e n (nI j) := by
  intro d
  induction d with
  | zero =>
    intro j n hj hn hp
    obtain ⟨n, rfl⟩ : ∃ k, n = k + 1 := ⟨n - 1, by omega⟩
    obtain rfl : j = 4 := by omega
    exact br_t (by decide) hp
  | succ d ih =>
    intro j n hj hn hp
    obtain ⟨n, rfl⟩ : ∃ k, n = k + 1 := ⟨n - 1, by omega⟩
    refine br_f (bc_n4 (by omega)) ?_
    rw [bc_a4, bc_a12, nI_clamp (n := 4 + j) (by omega), nI_clamp (n := 12 + j) (by omega)]
    refine And.intro (vp_in_nI (by omega) (by decide)) (And.intro (vp_in_nI (by omega) (by decide)) ?_)
    by_cases z : e (4 + j) = e (12 + j)
    · have h1 : bc_7 e (d + 1) j = bc_7 e d (j + 1) := bc_nt0 (bc_lx0.mpr z)
      rw [h1] at hp
      refine br_t z ?_
      intro y ey
      rw [ey, nI_1]
      exact ih (j + 1) n (by omega) (by omega) hp
    · have h1 : bc_7 e (d + 1) j = (7, nI j, e (4 + j) ^^^ e (12 + j)) := bc_nt1 (fun q => z (bc_lx0.mp q))
      rw [h1] at hp
      exact br_f z hp
theorem bc_x115 {post : Int32 → Prop} (hp : post (bc_6 aD e).1) : wX_compare_115 post aT aR aC aL aD aN e := by
  by_cases z : aD 0 = aD 1
  · have h1 : bc_6 aD e = bc_7 e 4 0 := bc_nt0 (bc_x0.mpr z)
    rw [h1] at hp
    exact br_t z ⟨5, bc_x135 4 0 5 (by omega) (by omega) hp⟩
  · have h1 : bc_6 aD e = (6, -1, (aD 0 ^^^ aD 1).toInt64) := bc_nt1 (fun q => z (bc_x0.mp q))
    rw [h1] at hp
    exact br_f z hp
theorem bc_x78 {post : Int32 → Prop} {x1 : Int32} (hl : bc_len x1 m) : ∀ d j n, j + d = m → d < n → post (bc_5 (bc_6 aD e) e d j).1 → wX_compare_78 post x1 aT aR aC aL aD aN e n (nI j) := by
  have hm := hl.1
  intro d
  induction d with
  | zero =>
    intro j n hj hn hp
    obtain ⟨n, rfl⟩ : ∃ k, n = k + 1 := ⟨n - 1, by omega⟩
    exact br_t (bc_lenLe hl (by omega) (by omega)) (bc_x115 hp)
  | succ d ih =>
    intro j n hj hn hp
    obtain ⟨n, rfl⟩ : ∃ k, n = k + 1 := ⟨n - 1, by omega⟩
    refine br_f (bc_lenGt hl (by omega)) ?_
    refine br_f (bc_n4 (by omega)) ?_
    rw [bc_a8, nI_clamp (n := j) (by omega), nI_clamp (n := 8 + j) (by omega)]
    refine And.intro (vp_in_nI (by omega) (by decide)) (And.intro (vp_in_nI (by omega) (by decide)) ?_)
    by_cases z : e j = e (8 + j)
    · have h1 : bc_5 (bc_6 aD e) e (d + 1) j = bc_5 (bc_6 aD e) e d (j + 1) := bc_nt0 (bc_lx0.mpr z)
      rw [h1] at hp
      refine br_t z ?_
      intro y ey
      rw [ey, nI_1]
      exact ih (j + 1) n (by omega) (by omega) hp
    · have h1 : bc_5 (bc_6 aD e) e (d + 1) j = (5, nI j, e j ^^^ e (8 + j)) := bc_nt1 (fun q => z (bc_lx0.mp q))
      rw [h1] at hp
      exact br_f z hp
theorem bc_x12 {post : Int32 → Prop} (hm : m ≤ 4) : ∀ d j n, j + d = m → d < n → (bc_5 (bc_6 aD e) e d j).1 = 5 → post (bc_5 (bc_6 aD e) e d j).2.1 → wX_diffIndex_12 post aT aR aC aL aD aN e n (nI j) := by
  intro d
  induction d with
  | zero =>
    intro j n hj hn h5 hp
    exact absurd h5 (bc_6n aD e)
  | succ d ih =>
    intro j n hj hn h5 hp
    obtain ⟨n, rfl⟩ : ∃ k, n = k + 1 := ⟨n - 1, by omega⟩
    refine br_f (bc_n4 (by omega)) ?_
    rw [bc_a8, nI_clamp (n := j) (by omega), nI_clamp (n := 8 + j) (by omega)]
    refine And.intro (vp_in_nI (by omega) (by decide)) (And.intro (vp_in_nI (by omega) (by decide)) ?_)
    by_cases z : e j = e (8 + j)
    · have h1 : bc_5 (bc_6 aD e) e (d + 1) j = bc_5 (bc_6 aD e) e d (j + 1) := bc_nt0 (bc_lx0.mpr z)
      rw [h1] at hp h5
      refine br_t z ?_
      intro y ey
      rw [ey, nI_1]
      exact ih (j + 1) n (by omega) (by omega) h5 hp
    · have h1 : bc_5 (bc_6 aD e) e (d + 1) j = (5, nI j, e j ^^^ e (8 + j)) := bc_nt1 (fun q => z (bc_lx0.mp q))
      rw [h1] at hp
      exact br_f z hp
theorem bc_xC (hl : bc_len (aL 0) m) {post : Int32 → Prop} (hp : post (bc_S aT aR aC aL aD e m).1) : wpX_compare post (aT, aR, aC, aL, aD, aN, e) := by
  unfold bc_S at hp
  by_cases z1 : aT 0 = aT 1
  · rw [bc_nt0 (bc_x0.mpr z1)] at hp
    refine br_t z1 ?_
    by_cases z2 : aR 0 = aR 1
    · rw [bc_nt0 (bc_lx0.mpr z2)] at hp
      refine br_t z2 ?_
      by_cases z3 : aC 0 = aC 1
      · rw [bc_nt0 (bc_x0.mpr z3)] at hp
        refine br_t z3 ?_
        by_cases z4 : aL 0 = aL 1
        · rw [bc_nt0 (bc_x0.mpr z4)] at hp
          refine br_t z4 ?_
          intro y ey
          subst ey
          exact ⟨5, bc_x78 hl m 0 5 (by omega) (by have := hl.1; omega) hp⟩
        · rw [bc_nt1 (fun q => z4 (bc_x0.mp q))] at hp
          exact br_f z4 hp
      · rw [bc_nt1 (fun q => z3 (bc_x0.mp q))] at hp
        exact br_f z3 hp
    · rw [bc_nt1 (fun q => z2 (bc_lx0.mp q))] at hp
      exact br_f z2 hp
  · rw [bc_nt1 (fun q => z1 (bc_x0.mp q))] at hp
    exact br_f z1 hp
theorem bc_xI (hl : bc_len (aL 0) m) {post : Int32 → Prop} (hp : post (bc_S aT aR aC aL aD e m).2.1) : wpX_diffIndex post (aT, aR, aC, aL, aD, aN, e) := by
  unfold wpX_diffIndex
  dsimp only
  refine bc_xC hl ?_
  refine br_c (fun h5 => ?_) (fun n5 => br_c (fun h7 => ?_) (fun n7 => ?_))
  · have h1 := bc_S5 h5 (by decide) (by decide) (by decide) (by decide)
    rw [h1] at hp h5
    exact ⟨5, bc_x12 hl.1 m 0 5 (by omega) (by have := hl.1; omega) h5 hp⟩
  · have h1 := bc_S7 h7
    rw [h1] at hp
    exact ⟨5, bc_x54 4 0 5 (by omega) (by omega) hp⟩
  · have ok := bc_okS (aT := aT) (aR := aR) (aC := aC) (aL := aL) (aD := aD) (e := e) hl.1
    revert hp n5 n7
    generalize bc_S aT aR aC aL aD e m = s at ok
    intro hp n5 n7
    rcases ok with rfl | rfl | rfl | rfl | rfl | ⟨j, _, rfl⟩ | rfl | ⟨j, _, rfl⟩
    · exact hp
    · exact hp
    · exact hp
    · exact hp
    · exact hp
    · exact absurd rfl n5
    · exact hp
    · exact absurd rfl n7
theorem bc_in0 : vp_in 0 2 := vp_in_iff.mpr (by decide)
theorem bc_in1 : vp_in 1 2 := vp_in_iff.mpr (by decide)
theorem bc_p0 {post : Int64 → Prop} {z : Int32} (hz : z = 0) (hp : post ((aT 0).toInt64 ^^^ (aT 1).toInt64)) : wX_diffBits_83 post z aT aR aC aL aD aN e := by
  subst hz
  unfold wX_diffBits_83
  refine br_t rfl (br_f (by decide) (br_f (by decide) (br_t rfl (br_t rfl (And.intro bc_in0 ?_)))))
  exact br_f (by decide) (br_t rfl (br_f (by decide) (br_f (by decide) (br_t rfl (br_t rfl (And.intro bc_in1 hp))))))
theorem bc_p1 {post : Int64 → Prop} {z : Int32} (hz : z = 1) (hp : post (aR 0 ^^^ aR 1)) : wX_diffBits_83 post z aT aR aC aL aD aN e := by
  subst hz
  unfold wX_diffBits_83
  refine br_t rfl (br_f (by decide) (br_f (by decide) (br_t rfl (br_f (by decide) (br_t rfl (And.intro bc_in0 ?_))))))
  exact br_f (by decide) (br_t rfl (br_f (by decide) (br_f (by decide) (br_t rfl (br_f (by decide) (br_t rfl (And.intro bc_in1 hp)))))))
theorem bc_p2 {post : Int64 → Prop} {z : Int32} (hz : z = 2) (hp : post ((aC 0).toInt64 ^^^ (aC 1).toInt64)) : wX_diffBits_83 post z aT aR aC aL aD aN e := by
  subst hz
  unfold wX_diffBits_83
  refine br_t rfl (br_f (by decide) (br_f (by decide) (br_t rfl (br_f (by decide) (br_f (by decide) (br_t rfl (And.intro bc_in0 ?_)))))))
  exact br_f (by decide) (br_t rfl (br_f (by decide) (br_f (by decide) (br_t rfl (br_f (by decide) (br_f (by decide) (br_t rfl (And.intro bc_in1 hp))))))))
theorem bc_p3 {post : Int64 → Prop} {z : Int32} (hz : z = 3) (hp : post ((aL 0).toInt64 ^^^ (aL 1).toInt64)) : wX_diffBits_83 post z aT aR aC aL aD aN e := by
  subst hz
  unfold wX_diffBits_83
  refine br_t rfl (br_f (by decide) (br_f (by decide) (br_t rfl (br_f (by decide) (br_f (by decide) (br_f (by decide) (br_t rfl (And.intro bc_in0 ?_))))))))
  exact br_f (by decide) (br_t rfl (br_f (by decide) (br_f (by decide) (br_t rfl (br_f (by decide) (br_f (by decide) (br_f (by decide) (br_t rfl (And.intro bc_in1 hp)))))))))
theorem bc_p4 {post : Int64 → Prop} {z : Int32} (hz : z = 4) (hp : post ((aD 0).toInt64 ^^^ (aD 1).toInt64)) : wX_diffBits_83 post z aT aR aC aL aD aN e := by
  subst hz
  unfold wX_diffBits_83
  refine br_t rfl (br_f (by decide) (br_f (by decide) (br_t rfl (br_f (by decide) (br_f (by decide) (br_f (by decide) (br_f (by decide) (br_t rfl (And.intro bc_in0 ?_)))))))))
  exact br_f (by decide) (br_t rfl (br_f (by decide) (br_f (by decide) (br_t rfl (br_f (by decide) (br_f (by decide) (br_f (by decide) (br_f (by decide) (br_t rfl (And.intro bc_in1 hp))))))))))
theorem bc_48 {post : Int64 → Prop} {j : Nat} (hj : j < 4) (hp : post (e j ^^^ e (8 + j))) : wX_diffBits_48 post (nI j) 0 aT aR aC aL aD aN e := by
  unfold wX_diffBits_48
  rw [show (8 : Int32) + 0 = 8 from rfl, bc_a8, Int32.zero_add, nI_clamp (n := j) (by omega), nI_clamp (n := 8 + j) (by omega)]
  exact And.intro (vp_in_nI (by omega) (by decide)) (And.intro (vp_in_nI (by omega) (by decide)) hp)
theorem bc_48' {post : Int64 → Prop} {j : Nat} (hj : j < 4) (hp : post (e (4 + j) ^^^ e (12 + j))) : wX_diffBits_48 post (nI j) 4 aT aR aC aL aD aN e := by
  unfold wX_diffBits_48
  rw [show (8 : Int32) + 4 = 12 from rfl, bc_a12, bc_a4, nI_clamp (n := 4 + j) (by omega), nI_clamp (n := 12 + j) (by omega)]
  exact And.intro (vp_in_nI (by omega) (by decide)) (And.intro (vp_in_nI (by omega) (by decide)) hp)
theorem bc_le3 {j : Nat} (h : j < 4) : nI j ≤ 3 := nI_le (b := 3) (by omega) (by decide)
theorem bc_xD (hl : bc_len (aL 0) m) {post : Int64 → Prop} (hp : post (bc_S aT aR aC aL aD e m).2.2) : wpX_diffBits post (aT, aR, aC, aL, aD, aN, e) := by
  unfold wpX_diffBits
  dsimp only
  refine bc_xC hl ?_
  have K : ∀ (Q : Int32 → Prop), Q (bc_S aT aR aC aL aD e m).2.1 → wpX_diffIndex Q (aT, aR, aC, aL, aD, aN, e) := fun Q h => bc_xI hl h
  have ok := bc_okS (aT := aT) (aR := aR) (aC := aC) (aL := aL) (aD := aD) (e := e) hl.1
  revert hp K
  generalize bc_S aT aR aC aL aD e m = s at ok
  intro hp K
  rcases ok with rfl | rfl | rfl | rfl | rfl | ⟨j, hj, rfl⟩ | rfl | ⟨j, hj, rfl⟩
  · exact br_t rfl hp
  · rw [Int32.toInt64_xor] at hp
    exact br_f (show ¬ (1 : Int32) = 0 by decide) (br_f (show ¬ (1 : Int32) = 5 by decide) (br_f (show ¬ (1 : Int32) = 7 by decide) (br_f (show ¬ (1 : Int32) = 6 by decide) (bc_p0 (show (1 : Int32) - 1 = 0 by decide) hp))))
  · exact br_f (show ¬ (2 : Int32) = 0 by decide) (br_f (show ¬ (2 : Int32) = 5 by decide) (br_f (show ¬ (2 : Int32) = 7 by decide) (br_f (show ¬ (2 : Int32) = 6 by decide) (bc_p1 (show (2 : Int32) - 1 = 1 by decide) hp))))
  · rw [Int32.toInt64_xor] at hp
    exact br_f (show ¬ (3 : Int32) = 0 by decide) (br_f (show ¬ (3 : Int32) = 5 by decide) (br_f (show ¬ (3 : Int32) = 7 by decide) (br_f (show ¬ (3 : Int32) = 6 by decide) (bc_p2 (show (3 : Int32) - 1 = 2 by decide) hp))))
  · rw [Int32.toInt64_xor] at hp
    exact br_f (show ¬ (4 : Int32) = 0 by decide) (br_f (show ¬ (4 : Int32) = 5 by decide) (br_f (show ¬ (4 : Int32) = 7 by decide) (br_f (show ¬ (4 : Int32) = 6 by decide) (bc_p3 (show (4 : Int32) - 1 = 3 by decide) hp))))
  · refine br_f (show ¬ (5 : Int32) = 0 by decide) (br_t rfl ?_)
    unfold wX_diffBits_22
    refine K _ ?_
    exact br_f (nI_pos (by omega)) (br_t (bc_le3 hj) (br_t rfl (bc_48 hj hp)))
  · rw [Int32.toInt64_xor] at hp
    exact br_f (show ¬ (6 : Int32) = 0 by decide) (br_f (show ¬ (6 : Int32) = 5 by decide) (br_f (show ¬ (6 : Int32) = 7 by decide) (br_t rfl (bc_p4 rfl hp))))
  · refine br_f (show ¬ (7 : Int32) = 0 by decide) (br_f (show ¬ (7 : Int32) = 5 by decide) (br_t rfl ?_))
    unfold wX_diffBits_22
    refine K _ ?_
    exact br_f (nI_pos (by omega)) (br_t (bc_le3 hj) (br_f (show ¬ (7 : Int32) = 5 by decide) (bc_48' hj hp)))
end
end
section
/-! The setters: both sides store alike -/
def bc_R (u : SX) (v : SY) : Prop := u = v.2.2.2 ∧ ∃ m, bc_len (u.2.2.2.1 0) m
/-- one answer, and states related again, for both walks -/
def bc_both (X : (Int32 → SX → Prop) → Prop) (Y : (Int32 → SY → Prop) → Prop) : Prop :=
  ∃ (r : Int32) (u : SX) (v : SY), bc_R u v ∧ (∀ post, post r u → X post) ∧ (∀ post, post r v → Y post)
theorem bc_map {X X' : (Int32 → SX → Prop) → Prop} {Y Y' : (Int32 → SY → Prop) → Prop} (h : bc_both X Y) (hX : ∀ p, X p → X' p) (hY : ∀ p, Y p → Y' p) : bc_both X' Y' := by
  obtain ⟨r, u, v, hR, a, b⟩ := h
  exact ⟨r, u, v, hR, fun p q => hX p (a p q), fun p q => hY p (b p q)⟩
theorem bc_lenU {aL : Nat → Int32} (hl : ∃ m, bc_len (aL 0) m) {i : Nat} {x : Int32} (hx : ∃ m, bc_len x m) : ∃ m, bc_len (upd aL i x 0) m := by
  by_cases z : 0 = i
  · rw [show upd aL i x 0 = x from if_pos z]; exact hx
  · rw [show upd aL i x 0 = aL 0 from if_neg z]; exact hl
section
variable {aT : Nat → Int32} {aR : Nat → Int64} {aC aL aD aN : Nat → Int32} {e : Nat → Int64} {f g : Int32} {y : Int64}
theorem bc_253 {post : Int32 → SX → Prop} {x1 : Int32} (h1 : vp_in x1 2)
    (hp : post (((aN x1.toNatClampNeg + 1).toUInt32 % 65536).toInt32) (aT, aR, aC, aL, aD, upd aN x1.toNatClampNeg (vp_nar .char ((aN x1.toNatClampNeg + 1).toUInt32 % 65536).toInt32), e)) :
    wX_setHead_253 post x1 aT aR aC aL aD aN e := by
  refine And.intro h1 ?_
  intro z ez
  rw [bc_mask] at ez
  refine And.intro h1 ?_
  intro q eq
  rw [ez, bc_idem] at eq
  subst eq
  subst ez
  exact hp
theorem bc_267 {post : Int32 → SY → Prop} {x1 z0 : Int32} (h1 : vp_in x1 2)
    (hp : post (((aN x1.toNatClampNeg + 1).toUInt32 % 65536).toInt32) (f, g, y, aT, aR, aC, aL, upd aD x1.toNatClampNeg (vp_nar .byte z0), upd aN x1.toNatClampNeg (vp_nar .char ((aN x1.toNatClampNeg + 1).toUInt32 % 65536).toInt32), e)) :
    wY_setHead_267 post x1 z0 x1 f g y aT aR aC aL aD aN e := by
  refine And.intro h1 ?_
  intro q eq
  subst eq
  refine And.intro h1 (And.intro h1 ?_)
  intro q eq
  subst eq
  exact hp
/-- both, behind the choice of the raw bits -/
theorem bc_145 (hl : ∃ m, bc_len (aL 0) m) {x1 : Int32} (h1 : vp_in x1 2) (x2 x5 x6 x7 : Int32) (x8 : Int64) :
    bc_both (fun post => wX_setHead_145 post x1 x2 x5 x6 x7 x8 aT aR aC aL aD aN e) (fun post => wY_setHead_160 post x1 x2 x5 x6 x7 x8 f g y aT aR aC aL aD aN e) := by
  have z1 : ¬ (1 : Int32) = 0 := by decide
  by_cases hL : x2 = 76
  · by_cases hlo : x6 < (-1)
    · exact ⟨-3, (aT, aR, aC, aL, aD, aN, e), (f, g, y, aT, aR, aC, aL, aD, aN, e), ⟨rfl, hl⟩, fun p h => br_t hL (br_t hlo h), fun p h => br_t hL (br_f z1 (br_t hlo h))⟩
    · by_cases hhi : x6 ≤ 4
      · refine ⟨((aN x1.toNatClampNeg + 1).toUInt32 % 65536).toInt32, (upd aT x1.toNatClampNeg (vp_nar .char ((x2.toUInt32 % 65536).toInt32)), vp_updL aR x1.toNatClampNeg x8, upd aC x1.toNatClampNeg (vp_nar .short x5.toInt16.toInt32), upd aL x1.toNatClampNeg x6, upd aD x1.toNatClampNeg (vp_nar .byte x7.toInt8.toInt32), upd aN x1.toNatClampNeg (vp_nar .char ((aN x1.toNatClampNeg + 1).toUInt32 % 65536).toInt32), e), (f, g, y, upd aT x1.toNatClampNeg (vp_nar .char ((x2.toUInt32 % 65536).toInt32)), vp_updL aR x1.toNatClampNeg x8, upd aC x1.toNatClampNeg (vp_nar .short x5.toInt16.toInt32), upd aL x1.toNatClampNeg x6, upd aD x1.toNatClampNeg (vp_nar .byte x7.toInt8.toInt32), upd aN x1.toNatClampNeg (vp_nar .char ((aN x1.toNatClampNeg + 1).toUInt32 % 65536).toInt32), e),
          ⟨rfl, bc_lenU hl (bc_lenOf hlo hhi)⟩, fun p h => ?_, fun p h => ?_⟩
        · exact br_t hL (br_f hlo (br_t hhi (And.intro h1 (nm_e (And.intro h1 (nm_e (br_t hL (And.intro h1 (nm_e (br_t hL (And.intro h1 (nm_e (And.intro h1 (nm_e (bc_253 h1 h)))))))))))))))
        · exact br_t hL (br_f z1 (br_f hlo (br_t hhi (And.intro h1 (nm_e (And.intro h1 (nm_e (br_f z1 (And.intro h1 (nm_e (br_f z1 (And.intro h1 (nm_e (br_f z1 (bc_267 h1 h)))))))))))))))
      · exact ⟨-3, (aT, aR, aC, aL, aD, aN, e), (f, g, y, aT, aR, aC, aL, aD, aN, e), ⟨rfl, hl⟩, fun p h => br_t hL (br_f hlo (br_f hhi h)), fun p h => br_t hL (br_f z1 (br_f hlo (br_f hhi h)))⟩
  · by_cases hX : x2 = 88
    · refine ⟨((aN x1.toNatClampNeg + 1).toUInt32 % 65536).toInt32, (upd aT x1.toNatClampNeg (vp_nar .char ((x2.toUInt32 % 65536).toInt32)), vp_updL aR x1.toNatClampNeg x8, upd aC x1.toNatClampNeg (vp_nar .short x5.toInt16.toInt32), upd aL x1.toNatClampNeg 0, upd aD x1.toNatClampNeg (vp_nar .byte 0), upd aN x1.toNatClampNeg (vp_nar .char ((aN x1.toNatClampNeg + 1).toUInt32 % 65536).toInt32), e), (f, g, y, upd aT x1.toNatClampNeg (vp_nar .char ((x2.toUInt32 % 65536).toInt32)), vp_updL aR x1.toNatClampNeg x8, upd aC x1.toNatClampNeg (vp_nar .short x5.toInt16.toInt32), upd aL x1.toNatClampNeg 0, upd aD x1.toNatClampNeg (vp_nar .byte 0), upd aN x1.toNatClampNeg (vp_nar .char ((aN x1.toNatClampNeg + 1).toUInt32 % 65536).toInt32), e),
        ⟨rfl, bc_lenU hl ⟨0, bc_len0⟩⟩, fun p h => ?_, fun p h => ?_⟩
      · exact br_f hL (And.intro h1 (nm_e (And.intro h1 (nm_e (br_f hL (br_t hX (And.intro h1 (nm_e (br_f hL (And.intro h1 (nm_e (And.intro h1 (nm_e (bc_253 h1 h))))))))))))))
      · exact br_f hL (br_t rfl (And.intro h1 (nm_e (And.intro h1 (nm_e (br_t rfl (br_t hX (And.intro h1 (nm_e (br_t rfl (And.intro h1 (nm_e (br_t rfl (bc_267 h1 h))))))))))))))
    · refine ⟨((aN x1.toNatClampNeg + 1).toUInt32 % 65536).toInt32, (upd aT x1.toNatClampNeg (vp_nar .char ((x2.toUInt32 % 65536).toInt32)), vp_updL aR x1.toNatClampNeg x8, upd aC x1.toNatClampNeg (vp_nar .short 0), upd aL x1.toNatClampNeg 0, upd aD x1.toNatClampNeg (vp_nar .byte 0), upd aN x1.toNatClampNeg (vp_nar .char ((aN x1.toNatClampNeg + 1).toUInt32 % 65536).toInt32), e), (f, g, y, upd aT x1.toNatClampNeg (vp_nar .char ((x2.toUInt32 % 65536).toInt32)), vp_updL aR x1.toNatClampNeg x8, upd aC x1.toNatClampNeg (vp_nar .short 0), upd aL x1.toNatClampNeg 0, upd aD x1.toNatClampNeg (vp_nar .byte 0), upd aN x1.toNatClampNeg (vp_nar .char ((aN x1.toNatClampNeg + 1).toUInt32 % 65536).toInt32), e),
        ⟨rfl, bc_lenU hl ⟨0, bc_len0⟩⟩, fun p h => ?_, fun p h => ?_⟩
      · exact br_f hL (And.intro h1 (nm_e (And.intro h1 (nm_e (br_f hL (br_f hX (And.intro h1 (nm_e (br_f hL (And.intro h1 (nm_e (And.intro h1 (nm_e (bc_253 h1 h))))))))))))))
      · exact br_f hL (br_t rfl (And.intro h1 (nm_e (And.intro h1 (nm_e (br_t rfl (br_f hX (And.intro h1 (nm_e (br_t rfl (And.intro h1 (nm_e (br_t rfl (bc_267 h1 h))))))))))))))
theorem bc_11 (hl : ∃ m, bc_len (aL 0) m) {x1 : Int32} (h1 : vp_in x1 2) (x2 : Int32) (x3 : Int64) (x5 x6 x7 : Int32) :
    bc_both (fun post => wX_setHead_11 post x1 x2 x3 x5 x6 x7 aT aR aC aL aD aN e) (fun post => wY_setHead_11 post x1 x2 x3 x5 x6 x7 f g y aT aR aC aL aD aN e) := by
  by_cases h90 : x2 = 90
  · subst h90
    exact bc_map (bc_145 hl h1 90 x5 x6 x7 (x3 &&& 1)) (fun p h => br_t rfl (nm_e h)) (fun p h => br_f (by decide) (br_f (by decide) (br_f (by decide) (br_f (by decide) (br_f (by decide) (br_t rfl (nm_e h)))))))
  by_cases h66 : x2 = 66
  · subst h66
    exact bc_map (bc_145 hl h1 66 x5 x6 x7 (x3.toInt32.toInt8.toInt32.toInt64)) (fun p h => br_f (by decide) (br_t rfl (h))) (fun p h => br_t rfl (h))
  by_cases h67 : x2 = 67
  · subst h67
    exact bc_map (bc_145 hl h1 67 x5 x6 x7 (((x3.toInt32.toUInt32 % 65536).toInt32).toInt64)) (fun p h => br_f (by decide) (br_f (by decide) (br_t rfl (nm_r (bc_char x3) h)))) (fun p h => br_f (by decide) (br_t rfl (nm_e h)))
  by_cases h83 : x2 = 83
  · subst h83
    exact bc_map (bc_145 hl h1 83 x5 x6 x7 (x3.toInt32.toInt16.toInt32.toInt64)) (fun p h => br_f (by decide) (br_f (by decide) (br_f (by decide) (br_t rfl (h))))) (fun p h => br_f (by decide) (br_f (by decide) (br_f (by decide) (br_f (by decide) (br_t rfl (h))))))
  by_cases h73 : x2 = 73
  · subst h73
    exact bc_map (bc_145 hl h1 73 x5 x6 x7 (x3.toInt32.toInt64)) (fun p h => br_f (by decide) (br_f (by decide) (br_f (by decide) (br_f (by decide) (br_t rfl (h)))))) (fun p h => br_f (by decide) (br_f (by decide) (br_f (by decide) (br_t rfl (h)))))
  by_cases h70 : x2 = 70
  · subst h70
    exact bc_map (bc_145 hl h1 70 x5 x6 x7 (x3.toInt32.toInt64)) (fun p h => br_f (by decide) (br_f (by decide) (br_f (by decide) (br_f (by decide) (br_f (by decide) (br_t rfl (h))))))) (fun p h => br_f (by decide) (br_f (by decide) (br_t rfl (h))))
  by_cases h74 : x2 = 74
  · subst h74
    exact bc_map (bc_145 hl h1 74 x5 x6 x7 (x3)) (fun p h => br_f (by decide) (br_f (by decide) (br_f (by decide) (br_f (by decide) (br_f (by decide) (br_f (by decide) (br_t rfl (h)))))))) (fun p h => br_f (by decide) (br_f (by decide) (br_f (by decide) (br_f (by decide) (br_f (by decide) (br_f (by decide) (br_t rfl (h))))))))
  by_cases h68 : x2 = 68
  · subst h68
    exact bc_map (bc_145 hl h1 68 x5 x6 x7 (x3)) (fun p h => br_f (by decide) (br_f (by decide) (br_f (by decide) (br_f (by decide) (br_f (by decide) (br_f (by decide) (br_f (by decide) (br_t rfl (h))))))))) (fun p h => br_f (by decide) (br_f (by decide) (br_f (by decide) (br_f (by decide) (br_f (by decide) (br_f (by decide) (br_f (by decide) (br_t rfl (h)))))))))
  by_cases h86 : x2 = 86
  · subst h86
    exact bc_map (bc_145 hl h1 86 x5 x6 x7 (0)) (fun p h => br_f (by decide) (br_f (by decide) (br_f (by decide) (br_f (by decide) (br_f (by decide) (br_f (by decide) (br_f (by decide) (br_f (by decide) (br_t rfl (h)))))))))) (fun p h => br_f (by decide) (br_f (by decide) (br_f (by decide) (br_f (by decide) (br_f (by decide) (br_f (by decide) (br_f (by decide) (br_f (by decide) (br_t rfl (h))))))))))
  by_cases h76 : x2 = 76
  · subst h76
    exact bc_map (bc_145 hl h1 76 x5 x6 x7 (0)) (fun p h => br_f (by decide) (br_f (by decide) (br_f (by decide) (br_f (by decide) (br_f (by decide) (br_f (by decide) (br_f (by decide) (br_f (by decide) (br_f (by decide) (br_t rfl (h))))))))))) (fun p h => br_f (by decide) (br_f (by decide) (br_f (by decide) (br_f (by decide) (br_f (by decide) (br_f (by decide) (br_f (by decide) (br_f (by decide) (br_f (by decide) (br_t rfl (h)))))))))))
  by_cases h78 : x2 = 78
  · subst h78
    exact bc_map (bc_145 hl h1 78 x5 x6 x7 (0)) (fun p h => br_f (by decide) (br_f (by decide) (br_f (by decide) (br_f (by decide) (br_f (by decide) (br_f (by decide) (br_f (by decide) (br_f (by decide) (br_f (by decide) (br_f (by decide) (br_t rfl (h)))))))))))) (fun p h => br_f (by decide) (br_f (by decide) (br_f (by decide) (br_f (by decide) (br_f (by decide) (br_f (by decide) (br_f (by decide) (br_f (by decide) (br_f (by decide) (br_f (by decide) (br_t rfl (h))))))))))))
  by_cases h88 : x2 = 88
  · subst h88
    exact bc_map (bc_145 hl h1 88 x5 x6 x7 (0)) (fun p h => br_f (by decide) (br_f (by decide) (br_f (by decide) (br_f (by decide) (br_f (by decide) (br_f (by decide) (br_f (by decide) (br_f (by decide) (br_f (by decide) (br_f (by decide) (br_f (by decide) (br_t rfl (h))))))))))))) (fun p h => br_f (by decide) (br_f (by decide) (br_f (by decide) (br_f (by decide) (br_f (by decide) (br_f (by decide) (br_f (by decide) (br_f (by decide) (br_f (by decide) (br_f (by decide) (br_f (by decide) (br_t rfl (h)))))))))))))
  exact ⟨-2, (aT, aR, aC, aL, aD, aN, e), (f, g, y, aT, aR, aC, aL, aD, aN, e), ⟨rfl, hl⟩, fun p h => br_f h90 (br_f h66 (br_f h67 (br_f h83 (br_f h73 (br_f h70 (br_f h74 (br_f h68 (br_f h86 (br_f h76 (br_f h78 (br_f h88 (h)))))))))))), fun p h => br_f h66 (br_f h67 (br_f h70 (br_f h73 (br_f h83 (br_f h90 (br_f h74 (br_f h68 (br_f h86 (br_f h76 (br_f h78 (br_f h88 (h))))))))))))⟩
theorem bc_head (hl : ∃ m, bc_len (aL 0) m) (x1 x2 : Int32) (x3 : Int64) (x5 x6 x7 : Int32) :
    bc_both (fun post => wpX_setHead post (aT, aR, aC, aL, aD, aN, e) x1 x2 x3 x5 x6 x7) (fun post => wpY_setHead post (f, g, y, aT, aR, aC, aL, aD, aN, e) x1 x2 x3 x5 x6 x7) := by
  by_cases a0 : x1 = 0
  · exact bc_map (bc_11 hl (by rw [a0]; exact bc_in0) x2 x3 x5 x6 x7) (fun p h => br_t a0 h) (fun p h => br_t a0 h)
  · by_cases a1 : x1 = 1
    · exact bc_map (bc_11 hl (by rw [a1]; exact bc_in1) x2 x3 x5 x6 x7) (fun p h => br_f a0 (br_t a1 h)) (fun p h => br_f a0 (br_t a1 h))
    · exact ⟨-1, (aT, aR, aC, aL, aD, aN, e), (f, g, y, aT, aR, aC, aL, aD, aN, e), ⟨rfl, hl⟩, fun p h => br_f a0 (br_f a1 h), fun p h => br_f a0 (br_f a1 h)⟩
theorem bc_ix {x1 x2 x3 : Int32} (h1 : x1 = 0 ∨ x1 = 1) (h2 : x2 = 0 ∨ x2 = 1) (h3 : ¬ x3 < 0) (h4 : x3 ≤ 3) : vp_in (((x1 * 8) + (x2 * 4)) + x3) 16 := by
  obtain ⟨j, hj, rfl⟩ := nI_of2 (M := 3) (n := 3) (by decide) h3 h4
  have h : ∀ j : Nat, j < 4 → ∀ a : Nat, a < 2 → ∀ b : Nat, b < 2 → 0 ≤ (((nI a * 8) + (nI b * 4)) + nI j).toInt ∧ (((nI a * 8) + (nI b * 4)) + nI j).toInt < (16 : Nat) := by decide
  rw [vp_in_iff]
  rcases h1 with rfl | rfl <;> rcases h2 with rfl | rfl
  · exact h j (by omega) 0 (by decide) 0 (by decide)
  · exact h j (by omega) 0 (by decide) 1 (by decide)
  · exact h j (by omega) 1 (by decide) 0 (by decide)
  · exact h j (by omega) 1 (by decide) 1 (by decide)
theorem bc_c23 (hl : ∃ m, bc_len (aL 0) m) {x1 x2 : Int32} (h1 : x1 = 0 ∨ x1 = 1) (h2 : x2 = 0 ∨ x2 = 1) (x3 : Int32) (x4 : Int64) :
    bc_both (fun post => wX_setCell_23 post x1 x2 x3 x4 aT aR aC aL aD aN e) (fun post => wY_setCell_23 post x1 x2 x3 x4 f g y aT aR aC aL aD aN e) := by
  have hv : vp_in x1 2 := by rcases h1 with rfl | rfl; exact bc_in0; exact bc_in1
  by_cases h3 : x3 < 0
  · exact ⟨-3, (aT, aR, aC, aL, aD, aN, e), (f, g, y, aT, aR, aC, aL, aD, aN, e), ⟨rfl, hl⟩, fun p h => br_t h3 h, fun p h => br_t h3 h⟩
  · by_cases h4 : x3 ≤ 3
    · have hi := bc_ix h1 h2 h3 h4
      refine ⟨((aN x1.toNatClampNeg + 1).toUInt32 % 65536).toInt32, _, (f, g, y, aT, aR, aC, aL, aD, upd aN x1.toNatClampNeg (vp_nar .char ((aN x1.toNatClampNeg + 1).toUInt32 % 65536).toInt32), vp_updL e (((x1 * 8) + (x2 * 4)) + x3).toNatClampNeg x4), ⟨rfl, hl⟩, fun p h => ?_, fun p h => ?_⟩
      · refine br_f h3 (br_t h4 (And.intro hi (nm_e (And.intro hv ?_))))
        intro z ez
        rw [bc_mask] at ez
        refine And.intro hv ?_
        intro q eq
        rw [ez, bc_idem] at eq
        subst eq
        subst ez
        exact h
      · exact br_f h3 (br_t h4 (And.intro hi (nm_e (And.intro hv (And.intro hv (nm_e h))))))
    · exact ⟨-3, (aT, aR, aC, aL, aD, aN, e), (f, g, y, aT, aR, aC, aL, aD, aN, e), ⟨rfl, hl⟩, fun p h => br_f h3 (br_f h4 h), fun p h => br_f h3 (br_f h4 h)⟩
theorem bc_c11 (hl : ∃ m, bc_len (aL 0) m) {x1 : Int32} (h1 : x1 = 0 ∨ x1 = 1) (x2 x3 : Int32) (x4 : Int64) :
    bc_both (fun post => wX_setCell_11 post x1 x2 x3 x4 aT aR aC aL aD aN e) (fun post => wY_setCell_11 post x1 x2 x3 x4 f g y aT aR aC aL aD aN e) := by
  by_cases a0 : x2 = 0
  · exact bc_map (bc_c23 hl h1 (Or.inl a0) x3 x4) (fun p h => br_t a0 h) (fun p h => br_t a0 h)
  · by_cases a1 : x2 = 1
    · exact bc_map (bc_c23 hl h1 (Or.inr a1) x3 x4) (fun p h => br_f a0 (br_t a1 h)) (fun p h => br_f a0 (br_t a1 h))
    · exact ⟨-2, (aT, aR, aC, aL, aD, aN, e), (f, g, y, aT, aR, aC, aL, aD, aN, e), ⟨rfl, hl⟩, fun p h => br_f a0 (br_f a1 h), fun p h => br_f a0 (br_f a1 h)⟩
theorem bc_cell (hl : ∃ m, bc_len (aL 0) m) (x1 x2 x3 : Int32) (x4 : Int64) :
    bc_both (fun post => wpX_setCell post (aT, aR, aC, aL, aD, aN, e) x1 x2 x3 x4) (fun post => wpY_setCell post (f, g, y, aT, aR, aC, aL, aD, aN, e) x1 x2 x3 x4) := by
  by_cases a0 : x1 = 0
  · exact bc_map (bc_c11 hl (Or.inl a0) x2 x3 x4) (fun p h => br_t a0 h) (fun p h => br_t a0 h)
  · by_cases a1 : x1 = 1
    · exact bc_map (bc_c11 hl (Or.inr a1) x2 x3 x4) (fun p h => br_f a0 (br_t a1 h)) (fun p h => br_f a0 (br_t a1 h))
    · exact ⟨-1, (aT, aR, aC, aL, aD, aN, e), (f, g, y, aT, aR, aC, aL, aD, aN, e), ⟨rfl, hl⟩, fun p h => br_f a0 (br_f a1 h), fun p h => br_f a0 (br_f a1 h)⟩
end
end
section
/-! peek: one answer for both walks -/
def bc_bothL (X Y : (Int64 → Prop) → Prop) : Prop := ∃ r : Int64, (∀ post, post r → X post) ∧ (∀ post, post r → Y post)
theorem bc_mapL {X X' Y Y' : (Int64 → Prop) → Prop} (h : bc_bothL X Y) (hX : ∀ p, X p → X' p) (hY : ∀ p, Y p → Y' p) : bc_bothL X' Y' := by
  obtain ⟨r, a, b⟩ := h
  exact ⟨r, fun p q => hX p (a p q), fun p q => hY p (b p q)⟩
section
variable {aT : Nat → Int32} {aR : Nat → Int64} {aC aL aD aN : Nat → Int32} {e : Nat → Int64} {f g : Int32} {y : Int64}
theorem bc_k20 {x1 x2 : Int32} (h1 : x1 = 0 ∨ x1 = 1) (h2 : x2 = 0 ∨ x2 = 1) (x3 : Int32) :
    bc_bothL (fun post => wX_peek_20 post x1 x2 x3 aT aR aC aL aD aN e) (fun post => wY_peek_20 post x1 x2 x3 f g y aT aR aC aL aD aN e) := by
  by_cases h3 : x3 < 0
  · exact ⟨0, fun p h => br_t h3 h, fun p h => br_t h3 h⟩
  · by_cases h4 : x3 ≤ 3
    · have hi := bc_ix h1 h2 h3 h4
      have n4 : ¬ 3 < x3 := Int32.not_lt.mpr h4
      exact ⟨e (((x1 * 8) + (x2 * 4)) + x3).toNatClampNeg, fun p h => br_f h3 (br_t h4 (And.intro hi h)), fun p h => br_f h3 (br_f n4 (And.intro hi h))⟩
    · have n4 : 3 < x3 := Int32.not_le.mp h4
      exact ⟨0, fun p h => br_f h3 (br_f h4 h), fun p h => br_f h3 (br_t n4 h)⟩
theorem bc_k11 {x1 : Int32} (h1 : x1 = 0 ∨ x1 = 1) (x2 x3 : Int32) :
    bc_bothL (fun post => wX_peek_11 post x1 x2 x3 aT aR aC aL aD aN e) (fun post => wY_peek_11 post x1 x2 x3 f g y aT aR aC aL aD aN e) := by
  have hv : vp_in x1 2 := by rcases h1 with rfl | rfl; exact bc_in0; exact bc_in1
  by_cases a0 : x2 = 0
  · exact bc_mapL (bc_k20 h1 (Or.inl a0) x3) (fun p h => br_t a0 h) (fun p h => br_t a0 h)
  by_cases a1 : x2 = 1
  · exact bc_mapL (bc_k20 h1 (Or.inr a1) x3) (fun p h => br_f a0 (br_t a1 h)) (fun p h => br_f a0 (br_t a1 h))
  by_cases a2 : x2 = 2
  · by_cases b0 : x3 = 0
    · subst b0
      exact ⟨(aT x1.toNatClampNeg).toInt64, fun p h => br_f a0 (br_f a1 (br_t a2 (br_t rfl (And.intro hv h)))),
        fun p h => br_f a0 (br_f a1 (br_t a2 (br_f (by decide) (br_f (by decide) (br_t rfl (And.intro hv h))))))⟩
    by_cases b1 : x3 = 1
    · subst b1
      exact ⟨aR x1.toNatClampNeg, fun p h => br_f a0 (br_f a1 (br_t a2 (br_f b0 (br_t rfl (And.intro hv h))))),
        fun p h => br_f a0 (br_f a1 (br_t a2 (br_f (by decide) (br_f (by decide) (br_f b0 (br_t rfl (And.intro hv h)))))))⟩
    by_cases b2 : x3 = 2
    · subst b2
      exact ⟨(aC x1.toNatClampNeg).toInt64, fun p h => br_f a0 (br_f a1 (br_t a2 (br_f b0 (br_f b1 (br_t rfl (And.intro hv h)))))),
        fun p h => br_f a0 (br_f a1 (br_t a2 (br_f (by decide) (br_f (by decide) (br_f b0 (br_f b1 (br_t rfl (And.intro hv h))))))))⟩
    by_cases b3 : x3 = 3
    · subst b3
      exact ⟨(aL x1.toNatClampNeg).toInt64, fun p h => br_f a0 (br_f a1 (br_t a2 (br_f b0 (br_f b1 (br_f b2 (br_t rfl (And.intro hv h))))))),
        fun p h => br_f a0 (br_f a1 (br_t a2 (br_f (by decide) (br_f (by decide) (br_f b0 (br_f b1 (br_f b2 (br_t rfl (And.intro hv h)))))))))⟩
    by_cases b4 : x3 = 4
    · subst b4
      exact ⟨(aD x1.toNatClampNeg).toInt64, fun p h => br_f a0 (br_f a1 (br_t a2 (br_f b0 (br_f b1 (br_f b2 (br_f b3 (br_t rfl (And.intro hv h)))))))),
        fun p h => br_f a0 (br_f a1 (br_t a2 (br_f (by decide) (br_f (by decide) (br_f b0 (br_f b1 (br_f b2 (br_f b3 (br_t rfl (And.intro hv h))))))))))⟩
    by_cases b5 : x3 = 5
    · subst b5
      exact ⟨(aN x1.toNatClampNeg).toInt64, fun p h => br_f a0 (br_f a1 (br_t a2 (br_f b0 (br_f b1 (br_f b2 (br_f b3 (br_f b4 (br_t rfl (And.intro hv h))))))))),
        fun p h => br_f a0 (br_f a1 (br_t a2 (br_f (by decide) (br_f (by decide) (br_f b0 (br_f b1 (br_f b2 (br_f b3 (br_f b4 (br_t rfl (And.intro hv h)))))))))))⟩
    · refine ⟨0, fun p h => br_f a0 (br_f a1 (br_t a2 (br_f b0 (br_f b1 (br_f b2 (br_f b3 (br_f b4 (br_f b5 h)))))))), fun p h => br_f a0 (br_f a1 (br_t a2 ?_))⟩
      exact br_c (fun _ => h) (fun c0 => br_c (fun _ => h) (fun c5 => br_f b0 (br_f b1 (br_f b2 (br_f b3 (br_f b4 (br_f b5 trivial)))))))
  · exact ⟨0, fun p h => br_f a0 (br_f a1 (br_f a2 h)), fun p h => br_f a0 (br_f a1 (br_f a2 h))⟩
theorem bc_peek (x1 x2 x3 : Int32) :
    bc_bothL (fun post => wpX_peek post (aT, aR, aC, aL, aD, aN, e) x1 x2 x3) (fun post => wpY_peek post (f, g, y, aT, aR, aC, aL, aD, aN, e) x1 x2 x3) := by
  by_cases a0 : x1 = 0
  · exact bc_mapL (bc_k11 (Or.inl a0) x2 x3) (fun p h => br_t a0 h) (fun p h => br_t a0 h)
  · by_cases a1 : x1 = 1
    · exact bc_mapL (bc_k11 (Or.inr a1) x2 x3) (fun p h => br_f a0 (br_t a1 h)) (fun p h => br_f a0 (br_t a1 h))
    · exact ⟨0, fun p h => br_f a0 (br_f a1 h), fun p h => br_f a0 (br_f a1 h)⟩
end
end
section
/-- the relation: the component's arrays are the reference's, and side 0's length is within -1 .. 4 -/
def i_Rel (k : Nat) (u : SX) (v : SY) : Prop := bc_R u v
theorem i_up {k : Nat} {u : SX} {v : SY} (h : i_Rel k u v) : i_Rel (k + 8) u v := h
theorem i_vc0 : wpX_init (fun u => wpY_init (fun v => i_Rel 0 u v)) := by
  intro a ea b eb c ec d ed
  subst ea; subst eb; subst ec; subst ed
  exact ⟨rfl, 0, bc_len0⟩
theorem i_vc_setHead {k : Nat} {u : SX} {v : SY} (I : i_Rel k u v) (hk : k + 8 ≤ 4096) (v1 : Int32) (v2 : Int32) (a2 : Int64) (v5 : Int32) (v6 : Int32) (v7 : Int32) : wpX_setHead (fun r u' => wpY_setHead (fun r' v' => r' = r ∧ i_Rel (k + 8) u' v') v v1 v2 a2 v5 v6 v7) u v1 v2 a2 v5 v6 v7 := by
  obtain ⟨f, g, y, aT, aR, aC, aL, aD, aN, e⟩ := v
  obtain ⟨rfl, hl⟩ := I
  obtain ⟨r, u', v', hR, hX, hY⟩ := bc_head (aT := aT) (aR := aR) (aC := aC) (aD := aD) (aN := aN) (e := e) (f := f) (g := g) (y := y) hl v1 v2 a2 v5 v6 v7
  exact hX _ (hY _ ⟨rfl, hR⟩)
theorem i_vc_setCell {k : Nat} {u : SX} {v : SY} (I : i_Rel k u v) (hk : k + 8 ≤ 4096) (v1 : Int32) (v2 : Int32) (v3 : Int32) (a3 : Int64) : wpX_setCell (fun r u' => wpY_setCell (fun r' v' => r' = r ∧ i_Rel (k + 8) u' v') v v1 v2 v3 a3) u v1 v2 v3 a3 := by
  obtain ⟨f, g, y, aT, aR, aC, aL, aD, aN, e⟩ := v
  obtain ⟨rfl, hl⟩ := I
  obtain ⟨r, u', v', hR, hX, hY⟩ := bc_cell (aT := aT) (aR := aR) (aC := aC) (aD := aD) (aN := aN) (e := e) (f := f) (g := g) (y := y) hl v1 v2 v3 a3
  exact hX _ (hY _ ⟨rfl, hR⟩)
theorem i_vc_compare {k : Nat} {u : SX} {v : SY} (I : i_Rel k u v) (hk : k + 8 ≤ 4096) : wpX_compare (fun r => wpY_compare (fun r' v' => r' = r ∧ i_Rel (k + 8) u v') v) u := by
  obtain ⟨f, g, y, aT, aR, aC, aL, aD, aN, e⟩ := v
  obtain ⟨rfl, m, hl⟩ := I
  exact bc_xC hl (bc_yC hl ⟨rfl, rfl, m, hl⟩)
theorem i_vc_diffIndex {k : Nat} {u : SX} {v : SY} (I : i_Rel k u v) (hk : k + 8 ≤ 4096) : wpX_diffIndex (fun r => wpY_diffIndex (fun r' v' => r' = r ∧ i_Rel (k + 8) u v') v) u := by
  obtain ⟨f, g, y, aT, aR, aC, aL, aD, aN, e⟩ := v
  obtain ⟨rfl, m, hl⟩ := I
  exact bc_xI hl (bc_yI hl ⟨rfl, rfl, m, hl⟩)
theorem i_vc_diffBits {k : Nat} {u : SX} {v : SY} (I : i_Rel k u v) (hk : k + 8 ≤ 4096) : wpX_diffBits (fun r => wpY_diffBits (fun r' v' => r' = r ∧ i_Rel (k + 8) u v') v) u := by
  obtain ⟨f, g, y, aT, aR, aC, aL, aD, aN, e⟩ := v
  obtain ⟨rfl, m, hl⟩ := I
  exact bc_xD hl (bc_yD hl ⟨rfl, rfl, m, hl⟩)
theorem i_vc_peek {k : Nat} {u : SX} {v : SY} (I : i_Rel k u v) (hk : k + 8 ≤ 4096) (v1 : Int32) (v2 : Int32) (v3 : Int32) : wpX_peek (fun r => wpY_peek (fun r' => r' = r ∧ i_Rel (k + 8) u v) v v1 v2 v3) u v1 v2 v3 := by
  obtain ⟨f, g, y, aT, aR, aC, aL, aD, aN, e⟩ := v
  obtain ⟨rfl, hl⟩ := I
  obtain ⟨r, hX, hY⟩ := bc_peek (aT := aT) (aR := aR) (aC := aC) (aL := aL) (aD := aD) (aN := aN) (e := e) (f := f) (g := g) (y := y) v1 v2 v3
  exact hX _ (hY _ ⟨rfl, rfl, hl⟩)
end
