section
/-! bits of small ints; six columns -/
def rk_S6 (f : Nat → Nat) : Nat := f 0 + f 1 + f 2 + f 3 + f 4 + f 5
def rk_low (m : Nat) : Nat := if m.testBit 0 then 0 else if m.testBit 1 then 1 else if m.testBit 2 then 2 else if m.testBit 3 then 3 else if m.testBit 4 then 4 else 5
def rk_pcs (m : Nat) : Nat → Nat
  | 0 => 0
  | c + 1 => rk_pcs m c + m / 2 ^ c % 2
theorem rk_bit : ∀ m, m < 64 → ∀ c, c < 6 → ((nI m >>> (nI c &&& 31)) &&& 1) = nI (m / 2 ^ c % 2) := by decide +kernel
theorem rk_b1 : ∀ m, m < 64 → ∀ c, c < 6 → (((nI m >>> (nI c &&& 31)) &&& 1) = 1 ↔ m.testBit c = true) := by decide +kernel
theorem rk_b0 : ∀ m, m < 64 → ∀ c, c < 6 → (((nI m >>> (nI c &&& 31)) &&& 1) = 0 ↔ m.testBit c = false) := by decide +kernel
theorem rk_a0 : ∀ m, m < 64 → ∀ c, c < 6 → ((nI m &&& nI (2 ^ c)) = 0 ↔ m.testBit c = false) := by decide +kernel
theorem rk_shl : ∀ c, c < 7 → (1 : Int32) <<< (nI c &&& 31) = nI (2 ^ c) := by decide +kernel
theorem rk_shr : ∀ m, m < 64 → ∀ c, c < 6 → nI m >>> (nI c &&& 31) = nI (m / 2 ^ c) := by decide +kernel
theorem rk_byte : ∀ m, m < 64 → (nI m).toInt8.toInt32 = nI m := by decide +kernel
theorem rk_nar {m : Nat} (h : m < 64) : vp_nar .byte (nI m) = nI m := by rw [vp_nar_byte]; exact rk_byte m h
theorem rk_dif : ∀ a, a < 64 → ∀ b, b < 64 → nI a &&& (nI b ^^^ (-1)) = nI (a &&& (63 ^^^ b)) := by decide +kernel
theorem rk_and (a b : Nat) : nI a &&& nI b = nI (a &&& b) := by
  apply Int32.toBitVec_inj.1
  show BitVec.ofNat 32 a &&& BitVec.ofNat 32 b = BitVec.ofNat 32 (a &&& b)
  apply BitVec.eq_of_getLsbD_eq
  intro i hi
  simp [hi]
theorem rk_or (a b : Nat) : nI a ||| nI b = nI (a ||| b) := by
  apply Int32.toBitVec_inj.1
  show BitVec.ofNat 32 a ||| BitVec.ofNat 32 b = BitVec.ofNat 32 (a ||| b)
  apply BitVec.eq_of_getLsbD_eq
  intro i hi
  simp [hi]
theorem rk_xor (a b : Nat) : nI a ^^^ nI b = nI (a ^^^ b) := by
  apply Int32.toBitVec_inj.1
  show BitVec.ofNat 32 a ^^^ BitVec.ofNat 32 b = BitVec.ofNat 32 (a ^^^ b)
  apply BitVec.eq_of_getLsbD_eq
  intro i hi
  simp [hi]
theorem rk_lowF : ∀ m, m < 64 → m ≠ 0 → rk_low m < 6 ∧ (nI m &&& (-nI m)) = nI (2 ^ rk_low m) ∧ m.testBit (rk_low m) = true ∧ m ^^^ 2 ^ rk_low m < m ∧ 2 ^ rk_low m ≤ m ∧ (∀ c, c < 6 → (m ^^^ 2 ^ rk_low m).testBit c = (m.testBit c && !(c == rk_low m))) ∧ (∀ c, c < rk_low m → m.testBit c = false) := by decide +kernel
theorem rk_pcB : ∀ m, m < 64 → rk_pcs m 6 = rk_S6 (fun c => if m.testBit c then 1 else 0) := by decide +kernel
theorem rk_p64 {n : Nat} (h : n ≤ 6) : 2 ^ n ≤ 64 := Nat.pow_le_pow_right (n := 2) (by omega) h
theorem rk_S6c {f g : Nat → Nat} (h : ∀ c, c < 6 → f c = g c) : rk_S6 f = rk_S6 g := by
  unfold rk_S6
  rw [h 0 (by omega), h 1 (by omega), h 2 (by omega), h 3 (by omega), h 4 (by omega), h 5 (by omega)]
theorem rk_S6pull {g : Nat → Nat} {b b' : Nat → Bool} {l : Nat} (hl : l < 6) (hb : b l = true) (he : ∀ c, c < 6 → b' c = (b c && !(c == l))) :
    rk_S6 (fun c => if b c then g c else 0) = g l + rk_S6 (fun c => if b' c then g c else 0) := by
  have h0 := he 0 (by omega)
  have h1 := he 1 (by omega)
  have h2 := he 2 (by omega)
  have h3 := he 3 (by omega)
  have h4 := he 4 (by omega)
  have h5 := he 5 (by omega)
  have hl' : l = 0 ∨ l = 1 ∨ l = 2 ∨ l = 3 ∨ l = 4 ∨ l = 5 := by omega
  unfold rk_S6
  dsimp only
  rw [h0, h1, h2, h3, h4, h5]
  generalize e0 : (if b 0 = true then g 0 else 0) = y0
  generalize e1 : (if b 1 = true then g 1 else 0) = y1
  generalize e2 : (if b 2 = true then g 2 else 0) = y2
  generalize e3 : (if b 3 = true then g 3 else 0) = y3
  generalize e4 : (if b 4 = true then g 4 else 0) = y4
  generalize e5 : (if b 5 = true then g 5 else 0) = y5
  rcases hl' with rfl | rfl | rfl | rfl | rfl | rfl <;> simp [hb] at * <;> omega
/-- a store at place k, and what stands below -/
theorem rk_fill {f s : Nat → Int32} {i k : Nat} {x : Int32} (hk : k = i) (h : ∀ j, j < i → s j = f j) (hx : x = f i) : ∀ j, j < i + 1 → upd s k x j = f j := by
  intro j hj
  rw [hk]
  by_cases e : j = i
  · rw [e, pk_us, hx]
  · rw [pk_un e]
    exact h j (by omega)
theorem rk_64 (n : Nat) : (64 : Int32) * (nI n + 1) = nI (64 * (n + 1)) := by rw [nI_1]; exact pk_mul 64 (n + 1)
theorem rk_64n (n : Nat) : (64 : Int32) * nI n = nI (64 * n) := pk_mul 64 n
theorem rk_ix (r s : Nat) : (64 : Int32) * nI r + nI s = nI (64 * r + s) := by rw [rk_64n, nI_add]
theorem rk_ix1 (r s : Nat) : (64 : Int32) * (nI r + 1) + nI s = nI (64 * (r + 1) + s) := by rw [rk_64, nI_add]
theorem rk_6 (r s : Nat) : (6 : Int32) * nI r + nI s = nI (6 * r + s) := by
  rw [show (6 : Int32) * nI r = nI (6 * r) from pk_mul 6 r, nI_add]
theorem rk_7 (r s : Nat) : (7 : Int32) * nI r + nI s = nI (7 * r + s) := by
  rw [show (7 : Int32) * nI r = nI (7 * r) from pk_mul 7 r, nI_add]
theorem rk_c6 {r c : Nat} (hr : r < 6) (hc : c < 6) : nI (6 * r + c) / 6 = nI r := by
  have := pk_div (a := 6 * r + c) (d := 6) (by omega) (by omega) (by omega)
  rw [show (6 * r + c) / 6 = r by omega] at this
  exact this
theorem rk_m6 {r c : Nat} (hr : r < 6) (hc : c < 6) : nI (6 * r + c) - nI (6 * r + c) / 6 * 6 = nI c := by
  have := pk_rem (a := 6 * r + c) (d := 6) (by omega) (by omega) (by omega)
  rw [show (6 * r + c) % 6 = c by omega] at this
  exact this
/-! the picture -/
/-- rows of the board as sets of columns -/
def rk_Bd (n : Nat) (M : Nat → Nat → Bool) (a1 : Nat → Int32) : Prop := ∀ r, r < n → ∃ m, m < 2 ^ n ∧ a1 r = nI m ∧ ∀ c, c < 6 → m.testBit c = M r c
/-- factorials, choices -/
def rk_F : Nat → Nat
  | 0 => 1
  | i + 1 => rk_F i * (i + 1)
def rk_C : Nat → Nat → Nat
  | _, 0 => 1
  | 0, _ + 1 => 0
  | i + 1, j + 1 => rk_C i j + rk_C i (j + 1)
/-- the state matches: size n, board M, weights V -/
def rk_Ok (n : Nat) (M : Nat → Nat → Bool) (V : Nat → Nat → Int32) (u : St2) : Prop := match u with
  | (f, _, a1, a2, _, _, _, _, a7, a8, _, _, _) => (1 ≤ n ∧ n ≤ 6) ∧ f = nI n ∧ rk_Bd n M a1 ∧ (∀ r c, r < n → c < n → a2 (6 * r + c) = V r c) ∧ (∀ i, i < 7 → a7 i = nI (rk_F i)) ∧ (∀ i j, i < 7 → j < 7 → a8 (7 * i + j) = nI (rk_C i j))
/-- ways for k rooks in d rows from row r on, set s taken -/
def rk_W (M : Nat → Nat → Bool) : Nat → Nat → Nat → Nat → Nat
  | 0 => fun _ k _ => if k = 0 then 1 else 0
  | d + 1 => fun r k s => if k = 0 then 1 else rk_W M d (r + 1) k s + rk_S6 (fun c => if M r c && !(s.testBit c) then rk_W M d (r + 1) (k - 1) (s ||| 2 ^ c) else 0)
theorem rk_W0 (M : Nat → Nat → Bool) (d r s : Nat) : rk_W M d r 0 s = 1 := by cases d <;> rfl
theorem rk_Wn (M : Nat → Nat → Bool) (r k s : Nat) : rk_W M 0 r (k + 1) s = 0 := rfl
theorem rk_Ws (M : Nat → Nat → Bool) (d r k s : Nat) : rk_W M (d + 1) r (k + 1) s = rk_W M d (r + 1) (k + 1) s + rk_S6 (fun c => if M r c && !(s.testBit c) then rk_W M d (r + 1) k (s ||| 2 ^ c) else 0) := rfl
/-- cells of the first rows -/
def rk_cl (M : Nat → Nat → Bool) : Nat → Nat
  | 0 => 0
  | r + 1 => rk_cl M r + rk_S6 (fun c => if M r c then 1 else 0)
end
section
section
variable {t : Int32} {a1 a2 a3 a4 a5 a6 a7 a8 a9 a10 a11 : Nat → Int32} {f : Int32} {n : Nat} {M : Nat → Nat → Bool} {V : Nat → Nat → Int32}
theorem rk_sizeOf {post : Int32 → Prop} {m : Nat} (hm : m < 64) (H : post (nI (rk_pcs m 6))) : wpX_sizeOf post (f, t, a1, a2, a3, a4, a5, a6, a7, a8, a9, a10, a11) (nI m) :=
  pk_loop (fun k i s => wX_sizeOf_4 post (nI m) f t a1 a2 a3 a4 a5 a6 a7 a8 a9 a10 a11 k s (nI i)) (fun i s => s = nI (rk_pcs m i)) 6 0 0 (by omega) rfl
    (fun k s h => pk_le 6 6 (fun _ => by rw [h]; exact H) (fun z => absurd z (by omega)))
    (fun k i s hi h hw => pk_le 6 i (fun z => absurd z (by omega)) (fun _ => nm_e (nm_r (nI_1 i) (hw _ (by rw [h, rk_bit m hm i hi, nI_add]; rfl)))))
theorem rk_cells0 {post : Int32 → Prop} (hn : n ≤ 6) (hB : rk_Bd n M a1) (H : post (nI (rk_cl M n))) : wpX_cells post (nI n, t, a1, a2, a3, a4, a5, a6, a7, a8, a9, a10, a11) :=
  pk_loop (fun k i s => wX_cells_4 post (nI n) t a1 a2 a3 a4 a5 a6 a7 a8 a9 a10 a11 k s (nI i)) (fun i s => s = nI (rk_cl M i)) n 0 0 (by omega) rfl
    (fun k s h => pk_le n n (fun _ => by rw [h]; exact H) (fun z => absurd z (by omega)))
    (fun k i s hi h hw => pk_le n i (fun z => absurd z (by omega)) (fun _ => by
      obtain ⟨m, hm, e, hb⟩ := hB i hi
      have h64 := rk_p64 hn
      refine ⟨pk_in i 6 (by omega), ?_⟩
      rw [nI_clamp (show i < 2 ^ 31 by omega), e]
      refine rk_sizeOf (by omega) (nm_r ?_ (nm_r (nI_1 i) (hw _ rfl)))
      rw [h, nI_add, rk_pcB m (by omega), rk_S6c (g := fun c => if M i c then 1 else 0) (fun c hc => by rw [hb c hc])]
      rfl))
theorem rk_cells {post : Int32 → Prop} {u : St2} (h : rk_Ok n M V u) (H : post (nI (rk_cl M n))) : wpX_cells post u := by
  obtain ⟨f, t, a1, a2, a3, a4, a5, a6, a7, a8, a9, a10, a11⟩ := u
  obtain ⟨⟨_, hn⟩, rfl, hB, _⟩ := h
  exact rk_cells0 hn hB H
/-- a number is good or bad -/
def rk_gn (n : Nat) (x : Int32) : Prop := x < 0 ∨ (¬ x < 0 ∧ nI n < x)
theorem rk_bn0 {post : Int32 → Prop} {k : Nat} (hn : n ≤ 6) (hk : k ≤ n) (H : post 0) : wpX_badNumber post (nI n, t, a1, a2, a3, a4, a5, a6, a7, a8, a9, a10, a11) (nI k) :=
  br_f (nI_pos (by omega)) (br_t (nI_le hk (by omega)) H)
theorem rk_bn1 {post : Int32 → Prop} {x : Int32} (hk : rk_gn n x) (H : post 1) : wpX_badNumber post (nI n, t, a1, a2, a3, a4, a5, a6, a7, a8, a9, a10, a11) x := by
  rcases hk with h | ⟨h, g⟩
  · exact br_t h H
  · exact br_f h (br_f (Int32.not_le.mpr g) H)
/-- a cell is bad -/
def rk_gc (n : Nat) (x : Int32) : Prop := x < 0 ∨ (¬ x < 0 ∧ (nI n ≤ x / 6 ∨ (¬ nI n ≤ x / 6 ∧ ¬ (x - x / 6 * 6) < nI n)))
theorem rk_bc0 {post : Int32 → Prop} {r c : Nat} (hn : n ≤ 6) (hr : r < n) (hc : c < n) (H : post 0) : wpX_badCell post (nI n, t, a1, a2, a3, a4, a5, a6, a7, a8, a9, a10, a11) (nI (6 * r + c)) := by
  have e1 := rk_c6 (r := r) (c := c) (by omega) (by omega)
  have e2 := rk_m6 (r := r) (c := c) (by omega) (by omega)
  refine br_f (nI_pos (by omega)) ⟨by decide, ?_⟩
  rw [e1, show nI (6 * r + c) - nI r * 6 = nI c by rw [← e1]; exact e2]
  exact br_f (nI_ge hr (by omega)) ⟨by decide, br_t (nI_lt hc (by omega)) H⟩
theorem rk_bc1 {post : Int32 → Prop} {x : Int32} (hk : rk_gc n x) (H : post 1) : wpX_badCell post (nI n, t, a1, a2, a3, a4, a5, a6, a7, a8, a9, a10, a11) x := by
  rcases hk with h | ⟨h, g | ⟨g, g2⟩⟩
  · exact br_t h H
  · exact br_f h ⟨by decide, br_t g H⟩
  · exact br_f h ⟨by decide, br_f g ⟨by decide, br_f g2 H⟩⟩
end
end
section
section
variable {t : Int32} {a1 a2 a3 a4 a5 a6 a7 a8 a9 a10 a11 : Nat → Int32} {n : Nat} {M : Nat → Nat → Bool} {V : Nat → Nat → Int32}
theorem rk_takeNext {post : St2 → Prop} (hn : n ≤ 6) (H : ∀ a, (∀ j, j < 64 * (n + 1) → a j = a4 j) → post (nI n, t, a1, a2, a, a4, a5, a6, a7, a8, a9, a10, a11)) : wpX_takeNext post (nI n, t, a1, a2, a3, a4, a5, a6, a7, a8, a9, a10, a11) :=
  pk_loop (fun m i s => wX_takeNext_2 post (nI n) t m (nI i) a1 a2 s a4 a5 a6 a7 a8 a9 a10 a11) (fun i s => ∀ j, j < i → s j = a4 j) (64 * (n + 1)) 0 a3 (by omega) (fun j hj => absurd hj (by omega))
    (fun m s h => pk_le (64 * (n + 1)) (64 * (n + 1)) (fun _ => H s h) (fun z => absurd z (by omega)) (hx := rk_64 n))
    (fun m i s hi h hw => pk_le (64 * (n + 1)) i (fun z => absurd z (by omega)) (fun _ => ⟨pk_in i 448 (by omega), pk_in i 448 (by omega), nm_e (nm_r (nI_1 i) (hw _ (rk_fill (nI_clamp (by omega)) h (by rw [nI_clamp (by omega)]))))⟩) (hx := rk_64 n))
/-- the loop over free columns -/
theorem rk_cr38 {post : St2 → Prop} {J : Int32 → (Nat → Int32) → (Nat → Int32) → (Nat → Int32) → (Nat → Int32) → (Nat → Int32) → (Nat → Int32) → (Nat → Int32) → (Nat → Int32) → (Nat → Int32) → (Nat → Int32) → (Nat → Int32) → Prop}
    {r x v m : Nat} {A : Nat → Nat} (hn : n ≤ 6) (hr : r < n) (hx : x < 2 ^ n) (hm : m < 2 ^ n) (h3 : ∀ y, y < 2 ^ n → a3 (64 * (r + 1) + y) = nI (A y))
    (H : J (nI (x + 1)) a1 a2 a3 (upd a4 (64 * r + x) (nI (v + rk_S6 (fun c => if m.testBit c then A (x ||| 2 ^ c) else 0)))) a5 a6 a7 a8 a9 a10 a11) :
    ∃ k, wX_countRow_38 post J (nI r) (nI x) (nI n) t a1 a2 a3 a4 a5 a6 a7 a8 a9 a10 a11 k (nI v) (nI m) := by
  have h64 := rk_p64 hn
  refine loop_m (σ := Nat × Nat) (fun k s => wX_countRow_38 post J (nI r) (nI x) (nI n) t a1 a2 a3 a4 a5 a6 a7 a8 a9 a10 a11 k (nI s.1) (nI s.2))
    (fun s => s.2 < 2 ^ n ∧ s.1 + rk_S6 (fun c => if s.2.testBit c then A (x ||| 2 ^ c) else 0) = v + rk_S6 (fun c => if m.testBit c then A (x ||| 2 ^ c) else 0)) (fun s => s.2) ?_ (v, m) ⟨hm, rfl⟩
  intro k s hs hw
  obtain ⟨v', m'⟩ := s
  obtain ⟨hm', hv'⟩ := hs
  dsimp only at hm' hv' hw ⊢
  refine pk_eq m' 0 (fun z => ?_) (fun z => ?_)
  · subst z
    have e : rk_S6 (fun c => if (0 : Nat).testBit c then A (x ||| 2 ^ c) else 0) = 0 := by simp [rk_S6]
    rw [e, Nat.add_zero] at hv'
    refine ⟨pk_in (64 * r + x) 448 (by omega) (hx := rk_ix r x), nm_r ?_ (nm_r (nI_1 x) H)⟩
    rw [rk_ix, nI_clamp (by omega), hv']
  · obtain ⟨l6, e1, e2, e3, e4, e5, _⟩ := rk_lowF m' (by omega) z
    have hl : x ||| 2 ^ rk_low m' < 2 ^ n := Nat.or_lt_two_pow hx (by omega)
    refine nm_r e1 (nm_r (rk_xor _ _) ?_)
    rw [rk_or, rk_ix1]
    refine ⟨pk_in (64 * (r + 1) + (x ||| 2 ^ rk_low m')) 448 (by omega), nm_r (show _ = nI (v' + A (x ||| 2 ^ rk_low m')) from ?_) ?_⟩
    · rw [nI_clamp (by omega), h3 _ hl, nI_add]
    · refine hw (v' + A (x ||| 2 ^ rk_low m'), m' ^^^ 2 ^ rk_low m') ⟨by dsimp only; omega, ?_⟩ e3
      dsimp only
      rw [← hv', rk_S6pull (b := fun c => m'.testBit c) (g := fun c => A (x ||| 2 ^ c)) l6 e2 (b' := fun c => (m' ^^^ 2 ^ rk_low m').testBit c) e5]
      omega
theorem rk_countRow {post : St2 → Prop} {r m : Nat} {A3 A4 : Nat → Nat} (hn : n ≤ 6) (hr : r < n) (hm : m < 2 ^ n) (ha : a1 r = nI m) (hb : ∀ c, c < 6 → m.testBit c = M r c)
    (h3 : ∀ y, y < 2 ^ n → a3 (64 * (r + 1) + y) = nI (A3 y)) (h4 : ∀ y, y < 2 ^ n → a4 (64 * (r + 1) + y) = nI (A4 y))
    (H : ∀ a, (∀ y, y < 2 ^ n → a (64 * r + y) = nI (A4 y + rk_S6 (fun c => if M r c && !(y.testBit c) then A3 (y ||| 2 ^ c) else 0))) → (∀ j, 64 * (r + 1) ≤ j → a j = a4 j) → post (nI n, t, a1, a2, a3, a, a5, a6, a7, a8, a9, a10, a11)) :
    wpX_countRow post (nI n, t, a1, a2, a3, a4, a5, a6, a7, a8, a9, a10, a11) (nI r) := by
  have h64 := rk_p64 hn
  refine pk_loop (fun k i s => wX_countRow_2 post (nI r) (nI n) t k (nI i) a1 a2 a3 s a5 a6 a7 a8 a9 a10 a11)
    (fun i s => (∀ y, y < i → s (64 * r + y) = nI (A4 y + rk_S6 (fun c => if M r c && !(y.testBit c) then A3 (y ||| 2 ^ c) else 0))) ∧ (∀ j, 64 * (r + 1) ≤ j → s j = a4 j)) (2 ^ n) 0 a4 (by omega) ⟨fun j hj => absurd hj (by omega), fun _ _ => rfl⟩
    (fun k s h => pk_le (2 ^ n) (2 ^ n) (fun _ => H s h.1 h.2) (fun z => absurd z (by omega)) (hx := rk_shl n (by omega))) ?_
  intro k i s hi h hw
  obtain ⟨h1, h2⟩ := h
  refine pk_le (2 ^ n) i (fun z => absurd z (by omega)) (fun _ => ?_) (hx := rk_shl n (by omega))
  refine ⟨pk_in (64 * (r + 1) + i) 448 (by omega) (hx := rk_ix1 r i), nm_r (show _ = nI (A4 i) from ?_) ⟨pk_in r 6 (by omega), nm_r (show _ = nI (m &&& (63 ^^^ i)) from ?_) ?_⟩⟩
  · rw [rk_ix1, nI_clamp (by omega), h2 _ (by omega), h4 i hi]
  · rw [nI_clamp (by omega), ha, rk_dif m (by omega) i (by omega)]
  · refine rk_cr38 hn hr hi (Nat.lt_of_le_of_lt Nat.and_le_left hm) h3 (hw _ ⟨fun y hy => ?_, fun j hj => ?_⟩)
    · by_cases e : y = i
      · subst e
        rw [pk_us]
        congr 2
        refine rk_S6c (fun c hc => ?_)
        have t63 : (63 : Nat).testBit c = true := by
          have : ∀ c, c < 6 → (63 : Nat).testBit c = true := by decide
          exact this c hc
        rw [Nat.testBit_and, Nat.testBit_xor, t63, hb c hc, Bool.true_xor]
      · rw [pk_un (by omega)]
        exact h1 y (by omega)
    · rw [pk_un (by omega)]
      exact h2 j hj
/-- rows from the last one on -/
theorem rk_fw71 {post : St2 → Prop} {J : Int32 → Int32 → Int32 → (Nat → Int32) → (Nat → Int32) → (Nat → Int32) → (Nat → Int32) → (Nat → Int32) → (Nat → Int32) → (Nat → Int32) → (Nat → Int32) → (Nat → Int32) → (Nat → Int32) → (Nat → Int32) → Prop}
    {x1 : Int32} {x2 k : Nat} (hn : n ≤ 6) (hB : rk_Bd n M a1) (h3 : ∀ r y, r ≤ n → y < 2 ^ n → a3 (64 * r + y) = nI (rk_W M (n - r) r k y)) (h4 : ∀ y, y < 2 ^ n → a4 (64 * n + y) = 0)
    (H : ∀ a b, (∀ r y, r ≤ n → y < 2 ^ n → a (64 * r + y) = nI (rk_W M (n - r) r (k + 1) y)) → J (nI (x2 + 1)) (nI n) t a1 a2 a b a5 a6 a7 a8 a9 a10 a11) :
    ∃ fu, wX_findWays_71 post J x1 (nI x2) fu (nI n - 1) (nI n) t a1 a2 a3 a4 a5 a6 a7 a8 a9 a10 a11 := by
  have h64 := rk_p64 hn
  refine ⟨n + 1, pk_loopD (fun m i s => i ≤ n → wX_findWays_71 post J x1 (nI x2) m (nI i - 1) (nI n) t a1 a2 a3 s a5 a6 a7 a8 a9 a10 a11)
    (fun i s => ∀ r y, i ≤ r → r ≤ n → y < 2 ^ n → s (64 * r + y) = nI (rk_W M (n - r) r (k + 1) y)) ?_ ?_ n a4 ?_ (Nat.le_refl n)⟩
  · intro m s h _
    refine br_t (show nI 0 - 1 < 0 by decide) (rk_takeNext hn (fun a ha => nm_r (nI_1 x2) (H a s (fun r y hr hy => ?_))))
    rw [ha _ (by omega)]
    exact h r y (by omega) hr hy
  · intro m i s h hw hi
    obtain ⟨b, hb, ha, hbit⟩ := hB i (by omega)
    have e : nI (i + 1) - 1 = nI i := nI_pred i
    show wX_findWays_71 post J x1 (nI x2) (m + 1) (nI (i + 1) - 1) (nI n) t a1 a2 a3 s a5 a6 a7 a8 a9 a10 a11
    rw [e]
    refine br_f (nI_pos (by omega)) (rk_countRow (A3 := fun y => rk_W M (n - (i + 1)) (i + 1) k y) (A4 := fun y => rk_W M (n - (i + 1)) (i + 1) (k + 1) y) hn (by omega) hb ha hbit (fun y hy => h3 (i + 1) y (by omega) hy) (fun y hy => h (i + 1) y (by omega) (by omega) hy) (fun a h5 h6 => nm_r (Int32.sub_eq_add_neg (nI i) 1).symm (hw a ?_ (by omega))))
    intro r y hr hrn hy
    by_cases er : r = i
    · subst er
      rw [h5 y hy, show n - r = (n - (r + 1)) + 1 by omega, rk_Ws]
    · rw [h6 _ (by omega)]
      exact h r y (by omega) hrn hy
  · intro r y hr hrn hy
    have er : r = n := by omega
    subst er
    rw [h4 y hy, Nat.sub_self]
    rfl
theorem rk_fw37 {post : St2 → Prop} {J : Int32 → Int32 → Int32 → (Nat → Int32) → (Nat → Int32) → (Nat → Int32) → (Nat → Int32) → (Nat → Int32) → (Nat → Int32) → (Nat → Int32) → (Nat → Int32) → (Nat → Int32) → (Nat → Int32) → (Nat → Int32) → Prop}
    {x1 : Int32} {x2 k : Nat} (hn : n ≤ 6) (hB : rk_Bd n M a1) (h3 : ∀ r y, r ≤ n → y < 2 ^ n → a3 (64 * r + y) = nI (rk_W M (n - r) r k y))
    (H : ∀ a b, (∀ r y, r ≤ n → y < 2 ^ n → a (64 * r + y) = nI (rk_W M (n - r) r (k + 1) y)) → J (nI (x2 + 1)) (nI n) t a1 a2 a b a5 a6 a7 a8 a9 a10 a11) :
    ∃ fu, wX_findWays_37 post J x1 (nI x2) (nI n) t fu 0 a1 a2 a3 a4 a5 a6 a7 a8 a9 a10 a11 := by
  have h64 := rk_p64 hn
  exact pk_loop (fun m i s => wX_findWays_37 post J x1 (nI x2) (nI n) t m (nI i) a1 a2 a3 s a5 a6 a7 a8 a9 a10 a11) (fun i s => ∀ j, j < i → s (64 * n + j) = 0) 64 0 a4 (by omega) (fun j hj => absurd hj (by omega))
    (fun m s h => pk_le 64 64 (fun _ => nm_e (rk_fw71 hn hB h3 (fun y hy => h y (by omega)) H)) (fun z => absurd z (by omega)))
    (fun m i s hi h hw => pk_le 64 i (fun z => absurd z (by omega)) (fun _ => ⟨pk_in (64 * n + i) 448 (by omega) (hx := rk_ix n i), nm_r (by rw [rk_ix, nI_clamp (by omega)]) (nm_r (nI_1 i) (hw _ (fun j hj => by
      by_cases e : j = i
      · rw [e, pk_us]
      · rw [pk_un (by omega)]
        exact h j (by omega))))⟩))
theorem rk_findWays {post : St2 → Prop} {k : Nat} (hn : n ≤ 6) (hk : k < 100) (hB : rk_Bd n M a1)
    (H : ∀ a b, (∀ r y, r ≤ n → y < 2 ^ n → a (64 * r + y) = nI (rk_W M (n - r) r k y)) → post (nI n, t, a1, a2, a, b, a5, a6, a7, a8, a9, a10, a11)) : wpX_findWays post (nI n, t, a1, a2, a3, a4, a5, a6, a7, a8, a9, a10, a11) (nI k) := by
  have h64 := rk_p64 hn
  refine pk_loop (fun m i s => wX_findWays_2 post (nI k) (nI n) t m (nI i) a1 a2 s a4 a5 a6 a7 a8 a9 a10 a11) (fun i s => ∀ j, j < i → s j = 1) (64 * (n + 1)) 0 a3 (by omega) (fun j hj => absurd hj (by omega))
    (fun m s h => pk_le (64 * (n + 1)) (64 * (n + 1)) (fun _ => ?_) (fun z => absurd z (by omega)) (hx := rk_64 n))
    (fun m i s hi h hw => pk_le (64 * (n + 1)) i (fun z => absurd z (by omega)) (fun _ => ⟨pk_in i 448 (by omega), nm_e (nm_r (nI_1 i) (hw _ (rk_fill (f := fun _ => 1) (nI_clamp (by omega)) h rfl)))⟩) (hx := rk_64 n))
  exact pk_loop (σ := (Nat → Int32) × (Nat → Int32)) (fun m i q => wX_findWays_30 post (nI k) m (nI (i + 1)) (nI n) t a1 a2 q.1 q.2 a5 a6 a7 a8 a9 a10 a11)
    (fun i q => ∀ r y, r ≤ n → y < 2 ^ n → q.1 (64 * r + y) = nI (rk_W M (n - r) r i y)) k 0 (s, a4) (by omega)
    (fun r y hr hy => by rw [rk_W0]; exact h _ (by omega))
    (fun m q h => pk_lt k (k + 1) (fun _ => H q.1 q.2 h) (fun z => absurd z (by omega)))
    (fun m i q hi h hw => pk_lt k (i + 1) (fun z => absurd z (by omega)) (fun _ => rk_fw37 hn hB h (fun a b hab => hw (a, b) hab)))
theorem rk_countOf {post : Int32 → St2 → Prop} {k : Nat} (hn : n ≤ 6) (hk : k < 100) (hB : rk_Bd n M a1)
    (H : ∀ a b, post (nI (rk_W M n 0 k 0)) (nI n, t, a1, a2, a, b, a5, a6, a7, a8, a9, a10, a11)) : wpX_countOf post (nI n, t, a1, a2, a3, a4, a5, a6, a7, a8, a9, a10, a11) (nI k) := by
  refine rk_findWays hn hk hB (fun a b hab => ?_)
  have e := hab 0 0 (by omega) (Nat.two_pow_pos n)
  have e' : a 0 = nI (rk_W M n 0 k 0) := e
  show post (a 0) _
  rw [e']
  exact H a b
theorem rk_rooks {post : Int32 → St2 → Prop} {k : Nat} {u : St2} (h : rk_Ok n M V u) (hk : k ≤ n) (H : ∀ u', rk_Ok n M V u' → post (nI (rk_W M n 0 k 0)) u') : wpX_rooks post u (nI k) := by
  obtain ⟨f, t, a1, a2, a3, a4, a5, a6, a7, a8, a9, a10, a11⟩ := u
  obtain ⟨⟨h1, hn⟩, rfl, hB, h2⟩ := h
  unfold wpX_rooks
  exact rk_bn0 hn hk (br_t rfl (rk_countOf hn (by omega) hB (fun a b => H _ ⟨⟨h1, hn⟩, rfl, hB, h2⟩)))
theorem rk_rooksB {post : Int32 → St2 → Prop} {x : Int32} {u : St2} (h : rk_Ok n M V u) (hk : rk_gn n x) (H : post (-1) u) : wpX_rooks post u x := by
  obtain ⟨f, t, a1, a2, a3, a4, a5, a6, a7, a8, a9, a10, a11⟩ := u
  obtain ⟨⟨h1, hn⟩, rfl, hB, h2⟩ := h
  unfold wpX_rooks
  exact rk_bn1 hk (br_f (by decide) H)
end
end
section
/-- hits: the first m terms -/
def rk_H (n : Nat) (R : Nat → Nat) (k : Nat) : Nat → Int32
  | 0 => 0
  | m + 1 => if m % 2 = 0 then rk_H n R k m + nI (R (k + m)) * nI (rk_F (n - (k + m))) * nI (rk_C (k + m) k) else rk_H n R k m - nI (R (k + m)) * nI (rk_F (n - (k + m))) * nI (rk_C (k + m) k)
theorem rk_odd : ∀ i, i < 8 → ((nI i &&& 1) = 0 ↔ i % 2 = 0) := by decide +kernel
section
variable {t : Int32} {a1 a2 a3 a4 a5 a6 a7 a8 a9 a10 a11 : Nat → Int32} {n : Nat} {M M' : Nat → Nat → Bool} {V : Nat → Nat → Int32}
theorem rk_hits14 {post : Int32 → St2 → Prop} {k : Nat} (hn : n ≤ 6) (hk : k ≤ n) (hB : rk_Bd n M a1) (h7 : ∀ i, i < 7 → a7 i = nI (rk_F i)) (h8 : ∀ i j, i < 7 → j < 7 → a8 (7 * i + j) = nI (rk_C i j))
    (H : ∀ a b, post (rk_H n (fun j => rk_W M n 0 j 0) k (n + 1 - k)) (nI n, t, a1, a2, a, b, a5, a6, a7, a8, a9, a10, a11)) : ∃ fu, wX_hits_14 post (nI k) fu 0 (nI k) (nI n) t a1 a2 a3 a4 a5 a6 a7 a8 a9 a10 a11 := by
  refine pk_loop (σ := Int32 × (Nat → Int32) × (Nat → Int32)) (fun m i q => wX_hits_14 post (nI k) m q.1 (nI (k + i)) (nI n) t a1 a2 q.2.1 q.2.2 a5 a6 a7 a8 a9 a10 a11)
    (fun i q => q.1 = rk_H n (fun j => rk_W M n 0 j 0) k i) (n + 1 - k) 0 (0, a3, a4) (by omega) rfl ?_ ?_
  · intro m q h
    obtain ⟨x, b3, b4⟩ := q
    dsimp only at h ⊢
    refine pk_lt n (k + (n + 1 - k)) (fun _ => ?_) (fun z => absurd z (by omega))
    rw [h]
    exact H b3 b4
  · intro m i q hi h hw
    obtain ⟨x, b3, b4⟩ := q
    dsimp only at h hw ⊢
    refine pk_lt n (k + i) (fun z => absurd z (by omega)) (fun _ => rk_countOf hn (by omega) hB (fun a b => ?_))
    refine ⟨pk_in (n - (k + i)) 7 (by omega) (hx := pk_sub (by omega)), pk_in (7 * (k + i) + k) 49 (by omega) (hx := rk_7 _ _), nm_r (show _ = nI (rk_W M n 0 (k + i) 0) * nI (rk_F (n - (k + i))) * nI (rk_C (k + i) k) from ?_) ?_⟩
    · rw [pk_sub (show k + i ≤ n by omega), rk_7, nI_clamp (by omega), nI_clamp (by omega), h7 _ (by omega), h8 _ _ (by omega) (by omega)]
    · rw [pk_sub (show k ≤ k + i by omega), show k + i - k = i by omega]
      by_cases e : i % 2 = 0
      · refine br_t ((rk_odd i (by omega)).mpr e) (nm_e (nm_r (nI_1 (k + i)) (hw (_, a, b) ?_)))
        show _ = rk_H n _ k (i + 1)
        rw [rk_H, if_pos e, h]
      · refine br_f (fun z => e ((rk_odd i (by omega)).mp z)) (nm_e (nm_r (nI_1 (k + i)) (hw (_, a, b) ?_)))
        show _ = rk_H n _ k (i + 1)
        rw [rk_H, if_neg e, h]
theorem rk_hits {post : Int32 → St2 → Prop} {k : Nat} {u : St2} (h : rk_Ok n M V u) (hk : k ≤ n) (H : ∀ u', rk_Ok n M V u' → post (rk_H n (fun j => rk_W M n 0 j 0) k (n + 1 - k)) u') : wpX_hits post u (nI k) := by
  obtain ⟨f, t, a1, a2, a3, a4, a5, a6, a7, a8, a9, a10, a11⟩ := u
  obtain ⟨⟨h1, hn⟩, rfl, hB, h2, h7, h8⟩ := h
  unfold wpX_hits
  exact rk_bn0 hn hk (br_t rfl (rk_hits14 hn hk hB h7 h8 (fun a b => H _ ⟨⟨h1, hn⟩, rfl, hB, h2, h7, h8⟩)))
theorem rk_hitsB {post : Int32 → St2 → Prop} {x : Int32} {u : St2} (h : rk_Ok n M V u) (hk : rk_gn n x) (H : post (-1) u) : wpX_hits post u x := by
  obtain ⟨f, t, a1, a2, a3, a4, a5, a6, a7, a8, a9, a10, a11⟩ := u
  obtain ⟨⟨h1, hn⟩, rfl, hB, h2⟩ := h
  unfold wpX_hits
  exact rk_bn1 hk (br_f (by decide) H)
/-! one bit of the board -/
theorem rk_t63 : ∀ c, c < 6 → (63 : Nat).testBit c = true := by decide
theorem rk_BdClr {a : Nat → Int32} {r c : Nat} (hn : n ≤ 6) (hB : rk_Bd n M a) (hr : r < n) (hc : c < 6) (hM : ∀ r' c', r' < n → c' < 6 → M' r' c' = (M r' c' && !(r' == r && c' == c))) :
    rk_Bd n M' (upd a r (((a r) &&& (nI (2 ^ c) ^^^ (-1))).toInt8.toInt32)) := by
  intro r' hr'
  obtain ⟨m, hm, e, hb⟩ := hB r' hr'
  have h64 := rk_p64 hn
  have hp : 2 ^ c < 64 := Nat.pow_lt_pow_right (by omega) hc
  by_cases g : r' = r
  · subst g
    refine ⟨m &&& (63 ^^^ 2 ^ c), Nat.lt_of_le_of_lt Nat.and_le_left hm, ?_, fun c' hc' => ?_⟩
    · rw [pk_us, e, rk_dif m (by omega) _ hp, rk_byte _ (Nat.lt_of_le_of_lt Nat.and_le_left (by omega))]
    · rw [Nat.testBit_and, Nat.testBit_xor, rk_t63 c' hc', Bool.true_xor, Nat.testBit_two_pow, hb c' hc', hM r' c' hr' hc']
      by_cases q : c' = c
      · simp [q]
      · simp [q, Ne.symm q]
  · refine ⟨m, hm, by rw [pk_un g, e], fun c' hc' => ?_⟩
    rw [hb c' hc', hM r' c' hr' hc']
    simp [g]
theorem rk_BdSet {a : Nat → Int32} {r c : Nat} (hn : n ≤ 6) (hB : rk_Bd n M a) (hr : r < n) (hc : c < n) (hM : ∀ r' c', r' < n → c' < 6 → M' r' c' = (M r' c' || (r' == r && c' == c))) :
    rk_Bd n M' (upd a r (((a r) ||| nI (2 ^ c)).toInt8.toInt32)) := by
  intro r' hr'
  obtain ⟨m, hm, e, hb⟩ := hB r' hr'
  have h64 := rk_p64 hn
  have hp : 2 ^ c < 2 ^ n := Nat.pow_lt_pow_right (by omega) hc
  have ho : m ||| 2 ^ c < 2 ^ n := Nat.or_lt_two_pow hm hp
  by_cases g : r' = r
  · subst g
    refine ⟨m ||| 2 ^ c, ho, ?_, fun c' hc' => ?_⟩
    · rw [pk_us, e, rk_or, rk_byte _ (by omega)]
    · rw [Nat.testBit_or, Nat.testBit_two_pow, hb c' hc', hM r' c' hr' hc']
      by_cases q : c' = c
      · simp [q]
      · simp [q, Ne.symm q]
  · refine ⟨m, hm, by rw [pk_un g, e], fun c' hc' => ?_⟩
    rw [hb c' hc', hM r' c' hr' hc']
    simp [g]
/-! countThrough -/
theorem rk_ct0 {post : Int32 → St2 → Prop} {r c : Nat} {x : Int32} (hn : n ≤ 6) (hB : rk_Bd n M a1) (hr : r < n) (hc : c < n) (hM : M r c = false ∨ x = 0) (H : post 0 (nI n, t, a1, a2, a3, a4, a5, a6, a7, a8, a9, a10, a11)) : wpX_countThrough post (nI n, t, a1, a2, a3, a4, a5, a6, a7, a8, a9, a10, a11) (nI (6 * r + c)) x := by
  obtain ⟨m, hm, e, hb⟩ := hB r hr
  have h64 := rk_p64 hn
  refine ⟨by decide, nm_r (rk_c6 (by omega) (by omega)) ⟨by decide, nm_r (show _ = nI (2 ^ c) by rw [rk_m6 (by omega) (by omega)]; exact rk_shl c (by omega)) ⟨pk_in r 6 (by omega), ?_⟩⟩⟩
  rw [nI_clamp (show r < 2 ^ 31 by omega), e]
  by_cases g : m.testBit c = false
  · exact br_t ((rk_a0 m (by omega) c (by omega)).mpr g) H
  · refine br_f (fun z => g ((rk_a0 m (by omega) c (by omega)).mp z)) ?_
    rcases hM with h | h
    · exact absurd ((hb c (by omega)).trans h) g
    · exact br_t h H
theorem rk_ct1 {post : Int32 → St2 → Prop} {r c k : Nat} (hn : n ≤ 6) (hB : rk_Bd n M a1) (hr : r < n) (hc : c < n) (hM : M r c = true) (h0 : k ≠ 0) (hk : k < 100) (hM' : ∀ r' c', r' < n → c' < 6 → M' r' c' = (M r' c' && !(r' == r && c' == c)))
    (H : ∀ b1 b3 b4, rk_Bd n M b1 → post (nI (rk_W M n 0 k 0) - nI (rk_W M' n 0 k 0)) (nI n, t, b1, a2, b3, b4, a5, a6, a7, a8, a9, a10, a11)) : wpX_countThrough post (nI n, t, a1, a2, a3, a4, a5, a6, a7, a8, a9, a10, a11) (nI (6 * r + c)) (nI k) := by
  obtain ⟨m, hm, e, hb⟩ := hB r hr
  have h64 := rk_p64 hn
  refine ⟨by decide, nm_r (rk_c6 (by omega) (by omega)) ⟨by decide, nm_r (show _ = nI (2 ^ c) by rw [rk_m6 (by omega) (by omega)]; exact rk_shl c (by omega)) ⟨pk_in r 6 (by omega), ?_⟩⟩⟩
  rw [nI_clamp (show r < 2 ^ 31 by omega)]
  refine br_f (fun z => ?_) (br_f (nI_ne0 (by omega) (by omega)) (rk_countOf hn hk hB (fun b3 b4 => ⟨pk_in r 6 (by omega), pk_in r 6 (by omega), nm_e ?_⟩)))
  · rw [e] at z
    have := (rk_a0 m (by omega) c (by omega)).mp z
    rw [hb c (by omega), hM] at this
    exact absurd this (by decide)
  · have hB' := rk_BdClr (M' := M') hn hB hr (show c < 6 by omega) hM'
    refine rk_countOf hn hk hB' (fun b3 b4 => ⟨pk_in r 6 (by omega), pk_in r 6 (by omega), nm_e (H _ b3 b4 ?_)⟩)
    refine rk_BdSet (M := M') hn hB' hr hc (fun r' c' hr' hc' => ?_)
    rw [hM' r' c' hr' hc']
    by_cases g : r' = r ∧ c' = c
    · obtain ⟨rfl, rfl⟩ := g
      simp [hM]
    · have : (r' == r && c' == c) = false := by
        simp only [Bool.and_eq_false_iff, beq_eq_false_iff_ne]
        by_cases q : r' = r
        · exact Or.inr (fun z => g ⟨q, z⟩)
        · exact Or.inl q
      simp [this]
theorem rk_throughC {post : Int32 → St2 → Prop} {x y : Int32} {u : St2} (h : rk_Ok n M V u) (hk : rk_gc n x) (H : post (-1) u) : wpX_through post u x y := by
  obtain ⟨f, t, a1, a2, a3, a4, a5, a6, a7, a8, a9, a10, a11⟩ := u
  obtain ⟨⟨h1, hn⟩, rfl, hB, h2⟩ := h
  unfold wpX_through
  exact rk_bc1 hk (br_f (by decide) H)
theorem rk_throughN {post : Int32 → St2 → Prop} {r c : Nat} {y : Int32} {u : St2} (h : rk_Ok n M V u) (hr : r < n) (hc : c < n) (hk : rk_gn n y) (H : post (-1) u) : wpX_through post u (nI (6 * r + c)) y := by
  obtain ⟨f, t, a1, a2, a3, a4, a5, a6, a7, a8, a9, a10, a11⟩ := u
  obtain ⟨⟨h1, hn⟩, rfl, hB, h2⟩ := h
  unfold wpX_through
  exact rk_bc0 hn hr hc (br_t rfl (rk_bn1 hk (br_f (by decide) H)))
theorem rk_through0 {post : Int32 → St2 → Prop} {r c k : Nat} {u : St2} (h : rk_Ok n M V u) (hr : r < n) (hc : c < n) (hk : k ≤ n) (hM : M r c = false ∨ k = 0) (H : post 0 u) : wpX_through post u (nI (6 * r + c)) (nI k) := by
  obtain ⟨f, t, a1, a2, a3, a4, a5, a6, a7, a8, a9, a10, a11⟩ := u
  obtain ⟨⟨h1, hn⟩, rfl, hB, h2⟩ := h
  unfold wpX_through
  exact rk_bc0 hn hr hc (br_t rfl (rk_bn0 hn hk (br_t rfl (rk_ct0 hn hB hr hc (hM.imp id (fun z => by rw [z]; rfl)) H))))
theorem rk_through1 {post : Int32 → St2 → Prop} {r c k : Nat} {u : St2} (h : rk_Ok n M V u) (hr : r < n) (hc : c < n) (hk : k ≤ n) (h0 : k ≠ 0) (hM : M r c = true) (hM' : ∀ r' c', r' < n → c' < 6 → M' r' c' = (M r' c' && !(r' == r && c' == c)))
    (H : ∀ u', rk_Ok n M V u' → post (nI (rk_W M n 0 k 0) - nI (rk_W M' n 0 k 0)) u') : wpX_through post u (nI (6 * r + c)) (nI k) := by
  obtain ⟨f, t, a1, a2, a3, a4, a5, a6, a7, a8, a9, a10, a11⟩ := u
  obtain ⟨⟨h1, hn⟩, rfl, hB, h2⟩ := h
  unfold wpX_through
  exact rk_bc0 hn hr hc (br_t rfl (rk_bn0 hn hk (br_t rfl (rk_ct1 hn hB hr hc hM h0 (by omega) hM' (fun b1 b3 b4 hb => H _ ⟨⟨h1, hn⟩, rfl, hb, h2⟩)))))
end
end
section
/-! greatest placements -/
theorem rk_fu : ∀ n, n < 7 → ∀ m, m < 64 → (∀ c, c < 6 → m.testBit c = decide (c < n)) → m = 2 ^ n - 1 := by decide +kernel
theorem rk_fs : ∀ n, n < 7 → ∀ i, i < n → ¬ (nI (2 ^ n - 1) &&& (nI (2 ^ i - 1) ^^^ (-1))) = 0 ∧ ((nI (2 ^ n - 1) &&& (nI (2 ^ i - 1) ^^^ (-1))) &&& (-(nI (2 ^ n - 1) &&& (nI (2 ^ i - 1) ^^^ (-1))))) = nI (2 ^ i) := by decide +kernel
theorem rk_fp : ∀ i, i < 6 → nI (2 ^ i) - 1 = nI (2 ^ i - 1) ∧ 2 ^ i - 1 < 64 ∧ rk_pcs (2 ^ i - 1) 6 = i ∧ nI (2 ^ i - 1) ||| nI (2 ^ i) = nI (2 ^ (i + 1) - 1) := by decide +kernel
theorem rk_b6 {i : Nat} (h : i < 64) : (nI i).toInt8.toInt32 = nI i := rk_byte i h
theorem rk_tr0 (x : Int32) : x &&& ((0 : Int32) ^^^ (-1)) = x := by
  apply Int32.toBitVec_inj.1
  apply BitVec.eq_of_getLsbD_eq
  intro i hi
  simp [hi]
section
variable {t : Int32} {a1 a2 a3 a4 a5 a6 a7 a8 a9 a10 a11 : Nat → Int32} {n : Nat} {M M' : Nat → Nat → Bool} {V : Nat → Nat → Int32}
theorem rk_movePath {post : St2 → Prop} {d : Nat} (hd : d < 7) (I : Nat → (Nat → Int32) → Prop) (h0 : I 0 a9) (hs : ∀ i s, i ≤ d → I i s → ∃ c, c < 6 ∧ a11 i = nI c ∧ I (i + 1) (upd s c (vp_nar .byte (a10 i)))) (H : ∀ s, I (d + 1) s → post (nI n, t, a1, a2, a3, a4, a5, a6, a7, a8, s, a10, a11)) :
    wpX_movePath post (nI n, t, a1, a2, a3, a4, a5, a6, a7, a8, a9, a10, a11) (nI d) := by
  refine pk_loop (fun m i s => wX_movePath_2 post (nI d) (nI n) t m (nI i) a1 a2 a3 a4 a5 a6 a7 a8 s a10 a11) I (d + 1) 0 a9 (by omega) h0
    (fun m s h => pk_lt d (d + 1) (fun _ => H s h) (fun z => absurd z (by omega))) ?_
  intro m i s hi h hw
  obtain ⟨c, hc, e, hI⟩ := hs i s (by omega) h
  refine pk_lt d i (fun z => absurd z (by omega)) (fun _ => ⟨pk_in i 7 (by omega), pk_in i 7 (by omega), ?_⟩)
  rw [nI_clamp (show i < 2 ^ 31 by omega), e, nI_clamp (show c < 2 ^ 31 by omega)]
  exact ⟨pk_in c 6 hc, nm_e (nm_r (nI_1 i) (hw _ hI))⟩
/-- a row with no cell -/
theorem rk_fc0 {post : Int32 → St2 → Prop} {r : Nat} (hr : r < 6) (ha : a1 r = 0) (H : ∀ b, post 0 (nI n, 0, a1, a2, a3, a4, a5, a6, a7, a8, a9, b, a11)) : wpX_findColumn post (nI n, 0, a1, a2, a3, a4, a5, a6, a7, a8, a9, a10, a11) (nI r) := by
  refine nm_r (show _ = upd a10 0 (nI r) by rw [rk_b6 (by omega)]) ⟨2, ?_⟩
  refine br_f (by decide) (br_f (by decide) ⟨pk_in 0 7 (by omega), ?_⟩)
  rw [sb_cl0, pk_us, nI_clamp (show r < 2 ^ 31 by omega), ha]
  exact ⟨pk_in r 6 hr, nm_r (show _ = (0 : Int32) by decide) (br_t rfl (nm_r (show _ = (-1 : Int32) by decide) (nm_r (show _ = (1 : Int32) by decide) (br_f (by decide) (br_t (by decide) (H _))))))⟩
/-- a row with a cell whose first column is free -/
theorem rk_fc1 {post : Int32 → St2 → Prop} {r m : Nat} (hr : r < 6) (hm : m < 64) (h0 : m ≠ 0) (ha : a1 r = nI m) (h9 : ¬ 0 ≤ a9 (rk_low m)) (H : ∀ t' b9 b10 b11, post 1 (nI n, t', a1, a2, a3, a4, a5, a6, a7, a8, b9, b10, b11)) : wpX_findColumn post (nI n, 0, a1, a2, a3, a4, a5, a6, a7, a8, a9, a10, a11) (nI r) := by
  obtain ⟨l6, e1, e2, e3, e4, e5, _⟩ := rk_lowF m hm h0
  obtain ⟨p1, p2, p3, p4⟩ := rk_fp (rk_low m) l6
  refine nm_r (show _ = upd a10 0 (nI r) by rw [rk_b6 (by omega)]) ⟨1, ?_⟩
  refine br_f (by decide) (br_f (by decide) ⟨pk_in 0 7 (by omega), ?_⟩)
  rw [sb_cl0, pk_us, nI_clamp (show r < 2 ^ 31 by omega), ha]
  refine ⟨pk_in r 6 hr, nm_r (rk_tr0 (nI m)) (br_f (nI_ne0 (by omega) (by omega)) (nm_r e1 ?_))⟩
  rw [p1]
  refine rk_sizeOf p2 ?_
  rw [p3, rk_b6 (by omega), nI_clamp (show rk_low m < 2 ^ 31 by omega)]
  refine nm_e ⟨pk_in 0 7 (by omega), nm_e ⟨pk_in (rk_low m) 6 l6, br_f h9 ?_⟩⟩
  refine rk_movePath (d := 0) (by omega) (fun _ _ => True) trivial (fun i s hi _ => ⟨rk_low m, l6, ?_, trivial⟩) (fun s _ => H _ _ _ _)
  rw [show i = 0 by omega, pk_us]
/-- a full board -/
theorem rk_fcF {post : Int32 → St2 → Prop} {r : Nat} (hn : n ≤ 6) (hr : r < n) (ha : ∀ y, y < n → a1 y = nI (2 ^ n - 1)) (h9 : ∀ y, y < r → ∃ j, j < n ∧ a9 y = nI j) (h9' : ∀ y, r ≤ y → y < 6 → a9 y = -1)
    (H : ∀ t' b9 b10 b11, (∀ y, y < r + 1 → ∃ j, j < n ∧ b9 y = nI j) → (∀ y, r + 1 ≤ y → y < 6 → b9 y = -1) → post 1 (nI n, t', a1, a2, a3, a4, a5, a6, a7, a8, b9, b10, b11)) : wpX_findColumn post (nI n, 0, a1, a2, a3, a4, a5, a6, a7, a8, a9, a10, a11) (nI r) := by
  have h64 := rk_p64 hn
  refine nm_r (show _ = upd a10 0 (nI r) by rw [rk_b6 (by omega)]) ?_
  refine pk_loop (σ := (Nat → Int32) × (Nat → Int32)) (fun m i q => wX_findColumn_12 post (nI n) m (nI i) (nI i) (nI (2 ^ i - 1)) a1 a2 a3 a4 a5 a6 a7 a8 a9 q.1 q.2)
    (fun i q => (∀ j, j < i + 1 → ∃ y, y < n ∧ q.1 j = nI y) ∧ (∀ j, j < i → q.2 j = nI j)) r 0 (upd a10 0 (nI r), a11) (by omega) ⟨fun j hj => ⟨r, hr, by rw [show j = 0 by omega]; exact pk_us (f := a10) (k := 0)⟩, fun j hj => absurd hj (by omega)⟩ ?_ ?_
  · intro m q h
    obtain ⟨b10, b11⟩ := q
    obtain ⟨k1, k2⟩ := h
    dsimp only at k1 k2 ⊢
    obtain ⟨y, hy, ey⟩ := k1 r (by omega)
    obtain ⟨s1, s2⟩ := rk_fs n (by omega) r hr
    obtain ⟨p1, p2, p3, p4⟩ := rk_fp r (by omega)
    refine br_f (nI_ge (b := 100) (by omega) (by decide)) (br_f (nI_pos (by omega)) ⟨pk_in r 7 (by omega), ?_⟩)
    rw [nI_clamp (show r < 2 ^ 31 by omega), ey, nI_clamp (show y < 2 ^ 31 by omega), ha y hy]
    refine ⟨pk_in y 6 (by omega), nm_e (br_f s1 (nm_r s2 ?_))⟩
    rw [p1, p4]
    refine rk_sizeOf p2 ?_
    rw [p3, rk_b6 (show r < 64 by omega), nI_clamp (show r < 2 ^ 31 by omega)]
    refine nm_e ⟨pk_in r 7 (by omega), nm_e ⟨pk_in r 6 (by omega), br_f (by rw [h9' r (by omega) (by omega)]; decide) ?_⟩⟩
    refine rk_movePath (d := r) (by omega) (fun i s => (∀ y, y < i → ∃ j, j < n ∧ s y = nI j) ∧ (∀ y, r + 1 ≤ y → y < 6 → s y = -1)) ⟨fun y hy => absurd hy (by omega), fun y hy hy6 => h9' y (by omega) hy6⟩ ?_ (fun s hs => H _ _ _ _ hs.1 hs.2)
    intro i s hi hs
    refine ⟨i, by omega, ?_, ?_, ?_⟩
    · by_cases e : i = r
      · rw [e, pk_us]
      · rw [pk_un e]
        exact k2 i (by omega)
    · intro z hz
      by_cases e : z = i
      · obtain ⟨j, hj, ej⟩ := k1 i (by omega)
        exact ⟨j, hj, by rw [e, pk_us, ej, rk_nar (by omega)]⟩
      · rw [pk_un e]
        exact hs.1 z (by omega)
    · intro z hz hz6
      rw [pk_un (by omega)]
      exact hs.2 z hz hz6
  · intro m i q hi h hw
    obtain ⟨b10, b11⟩ := q
    obtain ⟨k1, k2⟩ := h
    dsimp only at k1 k2 hw ⊢
    obtain ⟨y, hy, ey⟩ := k1 i (by omega)
    obtain ⟨s1, s2⟩ := rk_fs n (by omega) i (by omega)
    obtain ⟨p1, p2, p3, p4⟩ := rk_fp i (by omega)
    obtain ⟨g, hg, eg⟩ := h9 i hi
    refine br_f (nI_ge (b := 100) (by omega) (by decide)) (br_f (nI_pos (by omega)) ⟨pk_in i 7 (by omega), ?_⟩)
    rw [nI_clamp (show i < 2 ^ 31 by omega), ey, nI_clamp (show y < 2 ^ 31 by omega), ha y hy]
    refine ⟨pk_in y 6 (by omega), nm_e (br_f s1 (nm_r s2 ?_))⟩
    rw [p1, p4]
    refine rk_sizeOf p2 ?_
    rw [p3, rk_b6 (show i < 64 by omega), nI_clamp (show i < 2 ^ 31 by omega), eg, rk_nar (show g < 64 by omega)]
    refine nm_e ⟨pk_in i 7 (by omega), nm_e ⟨pk_in i 6 (by omega), br_t (nI_pos' (by omega)) (nm_r (nI_1 i) ⟨pk_in i 6 (by omega), pk_in (i + 1) 7 (by omega), nm_e (nm_r (nI_1 i) ?_)⟩)⟩⟩
    rw [nI_clamp (show i + 1 < 2 ^ 31 by omega)]
    refine hw (upd b10 (i + 1) (nI g), upd b11 i (nI i)) ⟨fun j hj => ?_, fun j hj => ?_⟩
    · by_cases e : j = i + 1
      · exact ⟨g, hg, by rw [e]; exact pk_us⟩
      · obtain ⟨z, hz, ez⟩ := k1 j (by omega)
        exact ⟨z, hz, by rw [← ez]; exact pk_un e⟩
    · by_cases e : j = i
      · rw [e]; exact pk_us
      · rw [← k2 j (by omega)]; exact pk_un e
/-- the rows one by one: an invariant of rowOf -/
theorem rk_findMost {post : Int32 → St2 → Prop} (hn : n ≤ 6) (I : Nat → Nat → (Nat → Int32) → Prop) (h0 : ∀ s, (∀ j, j < 6 → s j = -1) → I 0 0 s)
    (hs : ∀ (r k : Nat) (b9 b10 b11 : Nat → Int32) (ps : Int32 → St2 → Prop), r < n → I r k b9 → (∀ (e : Nat) t' c9 c10 c11, e < 2 → I (r + 1) (k + e) c9 → ps (nI e) (nI n, t', a1, a2, a3, a4, a5, a6, a7, a8, c9, c10, c11)) → wpX_findColumn ps (nI n, 0, a1, a2, a3, a4, a5, a6, a7, a8, b9, b10, b11) (nI r))
    (H : ∀ k t' b9 b10 b11, I n k b9 → post (nI k) (nI n, t', a1, a2, a3, a4, a5, a6, a7, a8, b9, b10, b11)) : wpX_findMost post (nI n, t, a1, a2, a3, a4, a5, a6, a7, a8, a9, a10, a11) := by
  refine pk_loop (fun m i s => wX_findMost_2 post (nI n) t m (nI i) a1 a2 a3 a4 a5 a6 a7 a8 s a10 a11) (fun i s => ∀ j, j < i → s j = -1) 6 0 a9 (by omega) (fun j hj => absurd hj (by omega))
    (fun m s h => pk_le 6 6 (fun _ => ?_) (fun z => absurd z (by omega)))
    (fun m i s hi h hw => pk_le 6 i (fun z => absurd z (by omega)) (fun _ => ⟨pk_in i 6 (by omega), nm_e (nm_r (nI_1 i) (hw _ (rk_fill (f := fun _ => -1) (nI_clamp (by omega)) h rfl)))⟩))
  refine pk_loop (σ := Nat × Int32 × (Nat → Int32) × (Nat → Int32) × (Nat → Int32)) (fun m i q => wX_findMost_25 post m (nI q.1) (nI i) (nI n) q.2.1 a1 a2 a3 a4 a5 a6 a7 a8 q.2.2.1 q.2.2.2.1 q.2.2.2.2) (fun i q => I i q.1 q.2.2.1) n 0 (0, t, s, a10, a11) (by omega) (h0 s h) ?_ ?_
  · intro m q h
    exact pk_le n n (fun _ => H _ _ _ _ _ h) (fun z => absurd z (by omega))
  · intro m i q hi h hw
    refine pk_le n i (fun z => absurd z (by omega)) (fun _ => hs i q.1 _ _ _ _ hi h (fun e t' c9 c10 c11 he hI => ?_))
    refine pk_eq e 0 (fun z => ?_) (fun z => ?_)
    · subst z
      exact nm_r (nI_1 i) (hw (q.1, t', c9, c10, c11) hI)
    · have e1 : e = 1 := by omega
      subst e1
      exact nm_r (nI_1 q.1) (nm_r (nI_1 i) (hw (q.1 + 1, t', c9, c10, c11) hI))
end
/-- the greatest placement on M has v rooks -/
def rk_Most (n : Nat) (M : Nat → Nat → Bool) (v : Nat) : Prop := ∀ (post : Int32 → St2 → Prop) (t : Int32) (a1 a2 a3 a4 a5 a6 a7 a8 a9 a10 a11 : Nat → Int32), rk_Bd n M a1 → (∀ t' b9 b10 b11, post (nI v) (nI n, t', a1, a2, a3, a4, a5, a6, a7, a8, b9, b10, b11)) → wpX_findMost post (nI n, t, a1, a2, a3, a4, a5, a6, a7, a8, a9, a10, a11)
section
variable {t : Int32} {a1 a2 a3 a4 a5 a6 a7 a8 a9 a10 a11 : Nat → Int32} {n : Nat} {M M' : Nat → Nat → Bool} {V : Nat → Nat → Int32}
theorem rk_row0 {r : Nat} (hn : n ≤ 6) (hB : rk_Bd n M a1) (hr : r < n) (h : ∀ c, c < 6 → M r c = false) : a1 r = 0 := by
  obtain ⟨m, hm, e, hb⟩ := hB r hr
  have h64 := rk_p64 hn
  have key : ∀ m, m < 64 → (∀ c, c < 6 → m.testBit c = false) → m = 0 := by decide +kernel
  rw [e, key m (by omega) (fun c hc => (hb c hc).trans (h c hc))]
  rfl
theorem rk_mostE (hn : n ≤ 6) (hM : ∀ r c, r < n → c < 6 → M r c = false) : rk_Most n M 0 := by
  intro post t a1 a2 a3 a4 a5 a6 a7 a8 a9 a10 a11 hB H
  refine rk_findMost hn (fun _ k _ => k = 0) (fun _ _ => rfl) ?_ (fun k t' b9 b10 b11 h => by rw [h]; exact H _ _ _ _)
  intro r k b9 b10 b11 ps hr hI hp
  exact rk_fc0 (by omega) (rk_row0 hn hB hr (fun c hc => hM r c hr hc)) (fun b => hp 0 _ _ _ _ (by omega) hI)
theorem rk_mostS {p q : Nat} (hn : n ≤ 6) (hp : p < n) (hq : q < n) (hM : ∀ r c, r < n → c < 6 → M r c = (r == p && c == q)) : rk_Most n M 1 := by
  intro post t a1 a2 a3 a4 a5 a6 a7 a8 a9 a10 a11 hB H
  have h64 := rk_p64 hn
  refine rk_findMost hn (fun i k s => k = (if p < i then 1 else 0) ∧ (i ≤ p → ∀ j, j < 6 → s j = -1)) (fun s h => ⟨by simp, fun _ => h⟩) ?_ (fun k t' b9 b10 b11 h => by rw [h.1, if_pos hp]; exact H _ _ _ _)
  intro r k b9 b10 b11 ps hr hI hps
  obtain ⟨i1, i2⟩ := hI
  by_cases e : r = p
  · subst e
    obtain ⟨m, hm, e, hb⟩ := hB r hr
    have m0 : m ≠ 0 := by
      intro z
      have := hb q (by omega)
      rw [z, hM r q hr (by omega)] at this
      simp at this
    refine rk_fc1 (by omega) (show m < 64 by omega) m0 e (by rw [i2 (by omega) _ (rk_lowF m (by omega) m0).1]; decide) (fun t' c9 c10 c11 => hps 1 _ _ _ _ (by omega) ⟨?_, fun z => absurd z (by omega)⟩)
    rw [i1, if_neg (by omega), if_pos (by omega)]
  · refine rk_fc0 (by omega) (rk_row0 hn hB hr (fun c hc => ?_)) (fun b => hps 0 _ _ _ _ (by omega) ⟨?_, fun z => i2 (by omega)⟩)
    · rw [hM r c hr hc]
      simp [e]
    · rw [i1]
      by_cases g : p < r
      · rw [if_pos g, if_pos (by omega)]
      · rw [if_neg g, if_neg (by omega)]
theorem rk_mostF (hn : n ≤ 6) (hM : ∀ r c, r < n → c < 6 → M r c = decide (c < n)) : rk_Most n M n := by
  intro post t a1 a2 a3 a4 a5 a6 a7 a8 a9 a10 a11 hB H
  have h64 := rk_p64 hn
  have ha : ∀ y, y < n → a1 y = nI (2 ^ n - 1) := by
    intro y hy
    obtain ⟨m, hm, e, hb⟩ := hB y hy
    rw [e, rk_fu n (by omega) m (by omega) (fun c hc => (hb c hc).trans (hM y c hy hc))]
  refine rk_findMost hn (fun i k s => k = i ∧ (∀ y, y < i → ∃ j, j < n ∧ s y = nI j) ∧ (∀ y, i ≤ y → y < 6 → s y = -1)) (fun s h => ⟨rfl, fun y hy => absurd hy (by omega), fun y _ hy => h y hy⟩) ?_ (fun k t' b9 b10 b11 h => by rw [h.1]; exact H _ _ _ _)
  intro r k b9 b10 b11 ps hr hI hps
  obtain ⟨i1, i2, i3⟩ := hI
  exact rk_fcF hn hr ha i2 i3 (fun t' c9 c10 c11 h1 h2 => hps 1 _ _ _ _ (by omega) ⟨by omega, h1, h2⟩)
theorem rk_most {post : Int32 → St2 → Prop} {v : Nat} {u : St2} (h : rk_Ok n M V u) (hv : rk_Most n M v) (H : ∀ u', rk_Ok n M V u' → post (nI v) u') : wpX_most post u := by
  obtain ⟨f, t, a1, a2, a3, a4, a5, a6, a7, a8, a9, a10, a11⟩ := u
  obtain ⟨h1, rfl, hB, h2⟩ := h
  unfold wpX_most
  exact hv _ _ _ _ _ _ _ _ _ _ _ _ _ hB (fun t' b9 b10 b11 => H _ ⟨h1, rfl, hB, h2⟩)
theorem rk_lines {post : Int32 → St2 → Prop} {v : Nat} {u : St2} (h : rk_Ok n M V u) (hv : rk_Most n M v) (H : ∀ u', rk_Ok n M V u' → post (nI v) u') : wpX_lines post u := by
  obtain ⟨f, t, a1, a2, a3, a4, a5, a6, a7, a8, a9, a10, a11⟩ := u
  obtain ⟨h1, rfl, hB, h2⟩ := h
  unfold wpX_lines
  exact hv _ _ _ _ _ _ _ _ _ _ _ _ _ hB (fun t' b9 b10 b11 => H _ ⟨h1, rfl, hB, h2⟩)
end
end
section
section
variable {t : Int32} {a1 a2 a3 a4 a5 a6 a7 a8 a9 a10 a11 : Nat → Int32} {n : Nat} {M M' : Nat → Nat → Bool} {V : Nat → Nat → Int32}
theorem rk_gcI {i : Nat} (hi : i < 2 ^ 31) (hn : n ≤ 6) (h : ¬ (i / 6 < n ∧ i % 6 < n)) : rk_gc n (nI i) := by
  have e1 : nI i / 6 = nI (i / 6) := pk_div (d := 6) hi (by omega) (by omega)
  have e2 : nI i - nI i / 6 * 6 = nI (i % 6) := pk_rem (d := 6) hi (by omega) (by omega)
  refine Or.inr ⟨nI_pos hi, ?_⟩
  by_cases g : i / 6 < n
  · refine Or.inr ⟨?_, ?_⟩
    · rw [e1]
      exact nI_ge g (by omega)
    · rw [e2]
      exact nI_nlt (by omega) (by omega)
  · refine Or.inl ?_
    rw [e1]
    exact nI_le (by omega) (by omega)
theorem rk_bcI {post : Int32 → Prop} {i : Nat} (hi : i < 36) (hn : n ≤ 6) (hg : i / 6 < n → i % 6 < n → post 0) (hb : ¬ (i / 6 < n ∧ i % 6 < n) → post 1) : wpX_badCell post (nI n, t, a1, a2, a3, a4, a5, a6, a7, a8, a9, a10, a11) (nI i) := by
  by_cases g : i / 6 < n ∧ i % 6 < n
  · have := rk_bc0 (t := t) (a1 := a1) (a2 := a2) (a3 := a3) (a4 := a4) (a5 := a5) (a6 := a6) (a7 := a7) (a8 := a8) (a9 := a9) (a10 := a10) (a11 := a11) hn g.1 g.2 (hg g.1 g.2)
    rw [show 6 * (i / 6) + i % 6 = i by omega] at this
    exact this
  · exact rk_bc1 (rk_gcI (by omega) hn g) (hb g)
theorem rk_neededE {post : Int32 → St2 → Prop} {u : St2} (h : rk_Ok n M V u) (hv : rk_Most n M 0) (H : ∀ u', rk_Ok n M V u' → post 0 u') : wpX_needed post u := by
  obtain ⟨f, t, a1, a2, a3, a4, a5, a6, a7, a8, a9, a10, a11⟩ := u
  obtain ⟨⟨h1, hn⟩, rfl, hB, h2⟩ := h
  unfold wpX_needed
  refine hv _ _ _ _ _ _ _ _ _ _ _ _ _ hB (fun t' b9 b10 b11 => ?_)
  exact pk_loop (σ := Unit) (fun m i _ => wX_needed_9 post (nI 0) m 0 (nI i) (nI n) t' a1 a2 a3 a4 a5 a6 a7 a8 b9 b10 b11) (fun _ _ => True) 36 0 () (by omega) trivial
    (fun m _ _ => pk_le 36 36 (fun _ => H _ ⟨⟨h1, hn⟩, rfl, hB, h2⟩) (fun z => absurd z (by omega)))
    (fun m i _ hi _ hw => pk_le 36 i (fun z => absurd z (by omega)) (fun _ => rk_bcI hi hn (fun _ _ => br_t rfl (br_t (by decide) (nm_r (nI_1 i) (hw () trivial)))) (fun _ => br_f (by decide) (nm_r (nI_1 i) (hw () trivial)))))
theorem rk_neededS {post : Int32 → St2 → Prop} {p q : Nat} {u : St2} (h : rk_Ok n M V u) (hp : p < n) (hq : q < n) (hM : ∀ r c, r < n → c < 6 → M r c = (r == p && c == q)) (hv : rk_Most n M 1)
    (hW : rk_W M n 0 1 0 = 1) (hW' : rk_W (fun _ _ => false) n 0 1 0 = 0) (H : ∀ u', rk_Ok n M V u' → post 1 u') : wpX_needed post u := by
  obtain ⟨f, t, a1, a2, a3, a4, a5, a6, a7, a8, a9, a10, a11⟩ := u
  obtain ⟨⟨h1, hn⟩, rfl, hB, h2⟩ := h
  unfold wpX_needed
  refine hv _ _ _ _ _ _ _ _ _ _ _ _ _ hB (fun t' b9 b10 b11 => ?_)
  refine pk_loop (σ := Int32 × (Nat → Int32) × (Nat → Int32) × (Nat → Int32)) (fun m i s => wX_needed_9 post (nI 1) m s.1 (nI i) (nI n) t' s.2.1 a2 s.2.2.1 s.2.2.2 a5 a6 a7 a8 b9 b10 b11)
    (fun i s => s.1 = nI (if 6 * p + q < i then 1 else 0) ∧ rk_Bd n M s.2.1) 36 0 (0, a1, a3, a4) (by omega) ⟨rfl, hB⟩ ?_ ?_
  · intro m s hs
    obtain ⟨x, b1, b3, b4⟩ := s
    obtain ⟨k1, k2⟩ := hs
    dsimp only at k1 k2 ⊢
    refine pk_le 36 36 (fun _ => ?_) (fun z => absurd z (by omega))
    rw [k1, if_pos (by omega)]
    exact H _ ⟨⟨h1, hn⟩, rfl, k2, h2⟩
  · intro m i s hi hs hw
    obtain ⟨x, b1, b3, b4⟩ := s
    obtain ⟨k1, k2⟩ := hs
    dsimp only at k1 k2 hw ⊢
    refine pk_le 36 i (fun z => absurd z (by omega)) (fun _ => rk_bcI hi hn (fun g1 g2 => br_t rfl (br_f (by decide) ?_)) (fun g => br_f (by decide) (nm_r (nI_1 i) (hw (x, b1, b3, b4) ⟨?_, k2⟩))))
    · have ei : nI i = nI (6 * (i / 6) + i % 6) := by rw [show 6 * (i / 6) + i % 6 = i by omega]
      rw [ei]
      by_cases e : i = 6 * p + q
      · have er : i / 6 = p := by omega
        have ec : i % 6 = q := by omega
        refine rk_ct1 (M := M) (M' := fun _ _ => false) (k := 1) hn k2 g1 g2 (by rw [hM _ _ g1 (by omega), er, ec]; simp) (by omega) (by omega) (fun r' c' hr' hc' => by rw [hM _ _ hr' hc', er, ec]; simp) (fun c1 c3 c4 hb => rk_countOf (k := 1) hn (by omega) hb (fun d3 d4 => ?_))
        rw [hW, hW']
        refine br_t (by decide) (nm_r (show _ = nI (if 6 * p + q < i + 1 then 1 else 0) from ?_) (nm_r (by rw [← ei]; exact nI_1 i) (hw (_, c1, d3, d4) ⟨rfl, hb⟩)))
        rw [k1, if_neg (by omega), if_pos (by omega)]
        rfl
      · refine rk_ct0 (M := M) hn k2 g1 g2 (Or.inl ?_) (rk_countOf (k := 1) hn (by omega) k2 (fun d3 d4 => ?_))
        · rw [hM _ _ g1 (by omega)]
          simp only [Bool.and_eq_false_iff, beq_eq_false_iff_ne]
          omega
        · rw [hW]
          refine br_f (by decide) (nm_r (by rw [← ei]; exact nI_1 i) (hw (x, b1, d3, d4) ⟨?_, k2⟩))
          show x = _
          rw [k1]
          by_cases g : 6 * p + q < i
          · rw [if_pos g, if_pos (by omega)]
          · rw [if_neg g, if_neg (by omega)]
    · show x = _
      rw [k1]
      by_cases g' : 6 * p + q < i
      · rw [if_pos g', if_pos (by omega)]
      · rw [if_neg g', if_neg (by omega)]
end
end
section
/-! sums -/
def rk_sg (b s c : Nat) (y : Int32) : Int32 := if b = 1 ∧ rk_pcs (s / 2 ^ c) 6 % 2 = 1 then -y else y
theorem rk_od1 : ∀ i, i < 8 → ((nI i &&& 1) = 1 ↔ i % 2 = 1) := by decide +kernel
theorem rk_pc8 : ∀ m, m < 64 → rk_pcs m 6 < 8 := by decide +kernel
/-- the sum over the sets of size k -/
def rk_T (S : Nat → Int32) (k : Nat) : Nat → Int32
  | 0 => 0
  | s + 1 => if rk_pcs s 6 = k then rk_T S k s + S s else rk_T S k s
section
variable {t : Int32} {a1 a2 a3 a4 a5 a6 a7 a8 a9 a10 a11 : Nat → Int32} {n : Nat} {M M' : Nat → Nat → Bool} {V : Nat → Nat → Int32}
theorem rk_clearSums {post : St2 → Prop} (H : ∀ a, (∀ j, j < 64 → a j = if j = 0 then 1 else 0) → post (nI n, t, a1, a2, a3, a4, a, a6, a7, a8, a9, a10, a11)) : wpX_clearSums post (nI n, t, a1, a2, a3, a4, a5, a6, a7, a8, a9, a10, a11) :=
  pk_loop (fun m i s => wX_clearSums_2 post (nI n) t m (nI i) a1 a2 a3 a4 s a6 a7 a8 a9 a10 a11) (fun i s => ∀ j, j < i → s j = 0) 64 0 a5 (by omega) (fun j hj => absurd hj (by omega))
    (fun m s h => pk_le 64 64 (fun _ => nm_e (H _ (fun j hj => by
      by_cases e : j = 0
      · rw [e, pk_us]; rfl
      · rw [pk_un e, if_neg e]; exact h j hj))) (fun z => absurd z (by omega)))
    (fun m i s hi h hw => pk_le 64 i (fun z => absurd z (by omega)) (fun _ => ⟨pk_in i 64 (by omega), nm_e (nm_r (nI_1 i) (hw _ (rk_fill (f := fun _ => 0) (nI_clamp (by omega)) h rfl)))⟩))
theorem rk_sr195 {post : St2 → Prop} (H : ∀ a, (∀ j, j < 64 → a j = a6 j) → post (nI n, t, a1, a2, a3, a4, a, a6, a7, a8, a9, a10, a11)) : ∃ fu, wX_sumRow_195 post (nI n) t fu 0 a1 a2 a3 a4 a5 a6 a7 a8 a9 a10 a11 :=
  pk_loop (fun m i s => wX_sumRow_195 post (nI n) t m (nI i) a1 a2 a3 a4 s a6 a7 a8 a9 a10 a11) (fun i s => ∀ j, j < i → s j = a6 j) 64 0 a5 (by omega) (fun j hj => absurd hj (by omega))
    (fun m s h => pk_le 64 64 (fun _ => H s h) (fun z => absurd z (by omega)))
    (fun m i s hi h hw => pk_le 64 i (fun z => absurd z (by omega)) (fun _ => ⟨pk_in i 64 (by omega), pk_in i 64 (by omega), nm_e (nm_r (nI_1 i) (hw _ (rk_fill (nI_clamp (by omega)) h (by rw [nI_clamp (by omega)]))))⟩))
theorem rk_sr101 {post : St2 → Prop} {J : Int32 → (Nat → Int32) → (Nat → Int32) → (Nat → Int32) → (Nat → Int32) → (Nat → Int32) → (Nat → Int32) → (Nat → Int32) → (Nat → Int32) → (Nat → Int32) → (Nat → Int32) → (Nat → Int32) → Prop}
    {r b k s c : Nat} (hr : r < 6) (hb : b < 2) (hs : s < 64) (hc : c < 6) (h0 : a5 s = 0 → J (nI (k + 1)) a1 a2 a3 a4 a5 a6 a7 a8 a9 a10 a11) (h1 : a5 s ≠ 0 → J (nI (k + 1)) a1 a2 a3 a4 a5 (upd a6 (s ||| 2 ^ c) (a6 (s ||| 2 ^ c) + rk_sg b s c (a5 s * a2 (6 * r + c)))) a7 a8 a9 a10 a11) :
    wX_sumRow_101 post J (nI r) (nI b) (nI k) (nI s) (nI c) 1 (nI n) t a1 a2 a3 a4 a5 a6 a7 a8 a9 a10 a11 := by
  have hp : 2 ^ c < 2 ^ 6 := Nat.pow_lt_pow_right (by omega) hc
  have ho : s ||| 2 ^ c < 2 ^ 6 := Nat.or_lt_two_pow hs hp
  have ho' : s ||| 2 ^ c < 64 := ho
  have hd : s / 2 ^ c < 64 := Nat.lt_of_le_of_lt (Nat.div_le_self _ _) hs
  unfold wX_sumRow_101
  rw [rk_shr s hs c hc, rk_shl c (by omega), rk_or, rk_6, nI_clamp (show s < 2 ^ 31 by omega), nI_clamp (show 6 * r + c < 2 ^ 31 by omega), nI_clamp (show s ||| 2 ^ c < 2 ^ 31 by omega)]
  refine br_f (by decide) ⟨pk_in s 64 hs, br_c (fun z => nm_r (nI_1 k) (h0 z)) (fun z => rk_sizeOf hd ⟨pk_in s 64 hs, pk_in (6 * r + c) 36 (by omega), nm_e ⟨pk_in (s ||| 2 ^ c) 64 ho', ?_⟩⟩)⟩
  have h1' := h1 z
  unfold rk_sg at h1'
  refine pk_eq b 0 (fun e => ⟨pk_in (s ||| 2 ^ c) 64 ho', nm_e (nm_r (nI_1 k) ?_)⟩) (fun e => br_c (fun g => ⟨pk_in (s ||| 2 ^ c) 64 ho', nm_e (nm_r (nI_1 k) ?_)⟩) (fun g => ⟨pk_in (s ||| 2 ^ c) 64 ho', nm_e (nm_r (nI_1 k) ?_)⟩))
  · rw [if_neg (fun q => by omega)] at h1'
    exact h1'
  · rw [if_pos ⟨by omega, (rk_od1 _ (rk_pc8 _ hd)).mp g⟩] at h1'
    exact h1'
  · rw [if_neg (fun q => g ((rk_od1 _ (rk_pc8 _ hd)).mpr q.2))] at h1'
    exact h1'
theorem rk_sr41 {post : St2 → Prop} {r b m : Nat} (hn : 1 ≤ n ∧ n ≤ 6) (hr : r < n) (hb : b < 2) (hm : m < 64) (ha : a1 r = nI m) (hbit : ∀ c, c < 6 → m.testBit c = M r c) (I : Nat → (Nat → Int32) → Prop) (h0 : I 0 a6)
    (hk : ∀ s c q, s < 64 → c < n → I (s * n + c) q → (M r c = true → s.testBit c = false → a5 s = 0) → I (s * n + c + 1) q)
    (hs : ∀ s c q, s < 64 → c < n → I (s * n + c) q → M r c = true → s.testBit c = false → a5 s ≠ 0 → I (s * n + c + 1) (upd q (s ||| 2 ^ c) (q (s ||| 2 ^ c) + rk_sg b s c (a5 s * a2 (6 * r + c)))))
    (H : ∀ q, I (64 * n) q → ∃ fu, wX_sumRow_195 post (nI n) t fu 0 a1 a2 a3 a4 a5 q a7 a8 a9 a10 a11) : ∃ fu, wX_sumRow_41 post (nI r) (nI b) (nI n) t fu 0 a1 a2 a3 a4 a5 a6 a7 a8 a9 a10 a11 := by
  refine pk_loop (fun m i q => wX_sumRow_41 post (nI r) (nI b) (nI n) t m (nI i) a1 a2 a3 a4 a5 q a7 a8 a9 a10 a11) I (64 * n) 0 a6 (by omega) h0
    (fun m q h => pk_le (64 * n) (64 * n) (fun _ => H q h) (fun z => absurd z (by omega)) (hx := rk_64n n)) ?_
  intro fu i q hi h hw
  have hc : i % n < n := Nat.mod_lt _ (by omega)
  have hsi : i / n < 64 := Nat.div_lt_of_lt_mul (by rw [Nat.mul_comm]; exact hi)
  have ei : i = (i / n) * n + i % n := by rw [Nat.mul_comm]; exact (Nat.div_add_mod i n).symm
  have n0 : ¬ nI n = 0 := nI_ne0 (by omega) (by omega)
  have nx : ∀ q', I (i / n * n + i % n + 1) q' → wX_sumRow_41 post (nI r) (nI b) (nI n) t fu (nI (i + 1)) a1 a2 a3 a4 a5 q' a7 a8 a9 a10 a11 := fun q' h' => hw q' (by rw [← ei] at h'; exact h')
  rw [ei] at h
  refine pk_le (64 * n) i (fun z => absurd z (by omega)) (fun _ => ⟨n0, nm_r (pk_div (by omega) (by omega) (by omega)) ⟨n0, nm_r (pk_rem (by omega) (by omega) (by omega)) ⟨pk_in r 6 (by omega), ?_⟩⟩⟩) (hx := rk_64n n)
  rw [nI_clamp (show r < 2 ^ 31 by omega), ha]
  refine ek_if (rk_b1 m hm (i % n) (by omega)) (fun e => ek_if (rk_b0 (i / n) hsi (i % n) (by omega)) (fun g => rk_sr101 (by omega) hb hsi (by omega) (fun z => nx q (hk _ _ q hsi hc h (fun _ _ => z))) (fun z => nx _ (hs _ _ q hsi hc h ((hbit _ (by omega)).symm.trans e) g z))) (fun g => ?_)) (fun e => ?_)
  · exact br_t rfl (nm_r (nI_1 i) (nx q (hk _ _ q hsi hc h (fun _ z => absurd z g))))
  · exact br_t rfl (nm_r (nI_1 i) (nx q (hk _ _ q hsi hc h (fun z _ => absurd ((hbit _ (by omega)).trans z) e))))
theorem rk_sumRow {post : St2 → Prop} {r b p : Nat} (hn : 1 ≤ n ∧ n ≤ 6) (hr : r < n) (hb : b < 2) (hp : p < 2) (hB : rk_Bd n M a1) (I : Nat → (Nat → Int32) → Prop) (h0 : ∀ q, (∀ x, x < 64 → q x = if p = 0 then 0 else a5 x) → I 0 q)
    (hk : ∀ s c q, s < 64 → c < n → I (s * n + c) q → (M r c = true → s.testBit c = false → a5 s = 0) → I (s * n + c + 1) q)
    (hs : ∀ s c q, s < 64 → c < n → I (s * n + c) q → M r c = true → s.testBit c = false → a5 s ≠ 0 → I (s * n + c + 1) (upd q (s ||| 2 ^ c) (q (s ||| 2 ^ c) + rk_sg b s c (a5 s * a2 (6 * r + c)))))
    (H : ∀ q q', I (64 * n) q → (∀ j, j < 64 → q' j = q j) → post (nI n, t, a1, a2, a3, a4, q', q, a7, a8, a9, a10, a11)) : wpX_sumRow post (nI n, t, a1, a2, a3, a4, a5, a6, a7, a8, a9, a10, a11) (nI r) (nI b) (nI p) := by
  have h64 := rk_p64 hn.2
  obtain ⟨m, hm, ha, hbit⟩ := hB r hr
  exact pk_loop (fun m i s => wX_sumRow_3 post (nI r) (nI b) (nI p) (nI n) t m (nI i) a1 a2 a3 a4 a5 s a7 a8 a9 a10 a11) (fun i s => ∀ j, j < i → s j = if p = 0 then 0 else a5 j) 64 0 a6 (by omega) (fun j hj => absurd hj (by omega))
    (fun m s h => pk_le 64 64 (fun _ => rk_sr41 hn hr hb (by omega) ha hbit I (h0 s h) hk hs (fun q hq => rk_sr195 (fun a h5 => H q a hq h5))) (fun z => absurd z (by omega)))
    (fun m i s hi h hw => pk_le 64 i (fun z => absurd z (by omega)) (fun _ => pk_eq p 0
      (fun e => ⟨pk_in i 64 (by omega), nm_e (nm_r (nI_1 i) (hw _ (rk_fill (f := fun j => if p = 0 then 0 else a5 j) (nI_clamp (by omega)) h (if_pos e).symm)))⟩)
      (fun e => ⟨pk_in i 64 (by omega), pk_in i 64 (by omega), nm_e (nm_r (nI_1 i) (hw _ (rk_fill (f := fun j => if p = 0 then 0 else a5 j) (nI_clamp (by omega)) h (by rw [nI_clamp (by omega)]; exact (if_neg e).symm))))⟩)))
/-- a row with no cell -/
theorem rk_sumRow0 {post : St2 → Prop} {r b p : Nat} (hn : 1 ≤ n ∧ n ≤ 6) (hr : r < n) (hb : b < 2) (hp : p < 2) (hB : rk_Bd n M a1) (hM : ∀ c, c < 6 → M r c = false)
    (H : ∀ q q', (∀ j, j < 64 → q' j = if p = 0 then 0 else a5 j) → post (nI n, t, a1, a2, a3, a4, q', q, a7, a8, a9, a10, a11)) : wpX_sumRow post (nI n, t, a1, a2, a3, a4, a5, a6, a7, a8, a9, a10, a11) (nI r) (nI b) (nI p) :=
  rk_sumRow hn hr hb hp hB (fun _ q => ∀ x, x < 64 → q x = if p = 0 then 0 else a5 x) (fun _ h => h) (fun _ _ _ _ _ h _ => h)
    (fun s c q _ hc _ h _ _ => absurd ((hM c (by omega)).symm.trans h) (by decide)) (fun q q' h h' => H q q' (fun j hj => (h' j hj).trans (h j hj)))
/-- from zeros, with no passing, zeros -/
theorem rk_sumRowZ {post : St2 → Prop} {r b : Nat} (hn : 1 ≤ n ∧ n ≤ 6) (hr : r < n) (hb : b < 2) (hB : rk_Bd n M a1) (hZ : ∀ j, j < 64 → a5 j = 0)
    (H : ∀ q q', (∀ j, j < 64 → q' j = 0) → post (nI n, t, a1, a2, a3, a4, q', q, a7, a8, a9, a10, a11)) : wpX_sumRow post (nI n, t, a1, a2, a3, a4, a5, a6, a7, a8, a9, a10, a11) (nI r) (nI b) (nI 0) :=
  rk_sumRow hn hr hb (by omega) hB (fun _ q => ∀ x, x < 64 → q x = 0) (fun q h x hx => by rw [h x hx]; rfl) (fun _ _ _ _ _ h _ => h)
    (fun s c q hs _ _ _ _ h => absurd (hZ s hs) h) (fun q q' h h' => H q q' (fun j hj => (h' j hj).trans (h j hj)))
/-- any row -/
theorem rk_sumRowA {post : St2 → Prop} {r b p : Nat} (hn : 1 ≤ n ∧ n ≤ 6) (hr : r < n) (hb : b < 2) (hp : p < 2) (hB : rk_Bd n M a1)
    (H : ∀ q q', post (nI n, t, a1, a2, a3, a4, q', q, a7, a8, a9, a10, a11)) : wpX_sumRow post (nI n, t, a1, a2, a3, a4, a5, a6, a7, a8, a9, a10, a11) (nI r) (nI b) (nI p) :=
  rk_sumRow hn hr hb hp hB (fun _ _ => True) (fun _ _ => trivial) (fun _ _ _ _ _ _ _ => trivial) (fun _ _ _ _ _ _ _ _ _ => trivial) (fun q q' _ _ => H q q')
theorem rk_or1a : ∀ s, s < 64 → ∀ c, c < 6 → s ||| 2 ^ c ≠ 0 := by decide +kernel
theorem rk_or1b : ∀ s, s < 64 → ∀ c, c < 6 → ∀ d, d < 6 → (s.testBit c = true ∨ 2 ^ d ≠ s ||| 2 ^ c ∨ (s = 0 ∧ d = c)) := by decide +kernel
theorem rk_or1 (s : Nat) (hs : s < 64) (c : Nat) (hc : c < 6) (h : s.testBit c = false) : s ||| 2 ^ c ≠ 0 ∧ ∀ d, d < 6 → 2 ^ d = s ||| 2 ^ c → s = 0 ∧ d = c := by
  refine ⟨rk_or1a s hs c hc, fun d hd e => ?_⟩
  rcases rk_or1b s hs c hc d hd with g | g | g
  · exact absurd (h.symm.trans g) (by decide)
  · exact absurd e g
  · exact g
theorem rk_or0 : ∀ c, c < 6 → 0 ||| 2 ^ c = 2 ^ c := by decide +kernel
theorem rk_sg0 (c : Nat) (hc : c < 6) (b : Nat) (y : Int32) : rk_sg b 0 c y = y := by
  have : ∀ c, c < 6 → rk_pcs (0 / 2 ^ c) 6 % 2 = 0 := by decide +kernel
  unfold rk_sg
  rw [if_neg]
  intro h
  rw [this c hc] at h
  exact absurd h.2 (by decide)
/-- sets of one column -/
theorem rk_sumRow1 {post : St2 → Prop} {r : Nat} (hn : 1 ≤ n ∧ n ≤ 6) (hr : r < n) (hB : rk_Bd n M a1)
    (H : ∀ q q', q' 0 = a5 0 → (∀ c, c < 6 → q' (2 ^ c) = a5 (2 ^ c) + if M r c then a5 0 * a2 (6 * r + c) else 0) → post (nI n, t, a1, a2, a3, a4, q', q, a7, a8, a9, a10, a11)) : wpX_sumRow post (nI n, t, a1, a2, a3, a4, a5, a6, a7, a8, a9, a10, a11) (nI r) (nI 0) (nI 1) := by
  have h64 := rk_p64 hn.2
  have hp : ∀ c, c < 6 → 2 ^ c < 64 := fun c hc => Nat.pow_lt_pow_right (n := 6) (a := 2) (by omega) hc
  have hout : ∀ c, n ≤ c → c < 6 → M r c = false := by
    intro c h1 h2
    obtain ⟨m, hm, _, hbit⟩ := hB r hr
    rw [← hbit c h2]
    exact Nat.testBit_lt_two_pow (Nat.lt_of_lt_of_le hm (Nat.pow_le_pow_right (by omega) h1))
  refine rk_sumRow hn hr (by omega) (by omega) hB (fun k q => q 0 = a5 0 ∧ ∀ c, c < 6 → q (2 ^ c) = a5 (2 ^ c) + if M r c = true ∧ c < k then a5 0 * a2 (6 * r + c) else 0) ?_ ?_ ?_ ?_
  · intro q h
    refine ⟨h 0 (by omega), fun c hc => ?_⟩
    rw [h _ (hp c hc), if_neg (by omega), if_neg (by omega), Int32.add_zero]
  · intro s c q hs hc h hz
    refine ⟨h.1, fun d hd => ?_⟩
    rw [h.2 d hd]
    by_cases e : s = 0 ∧ d = c
    · obtain ⟨rfl, rfl⟩ := e
      rw [Nat.zero_mul, Nat.zero_add, if_neg (by omega)]
      by_cases g : M r d = true
      · rw [if_pos ⟨g, by omega⟩, hz g (Nat.zero_testBit d), Int32.zero_mul]
      · rw [if_neg (fun z => g z.1)]
    · by_cases g : M r d = true
      · have hdn : d < n := by
          rcases Nat.lt_or_ge d n with z | z
          · exact z
          · exact absurd ((hout d z hd).symm.trans g) (by decide)
        have : d < s * n + c ↔ d < s * n + c + 1 := by
          rcases Nat.eq_zero_or_pos s with z | z
          · subst z
            omega
          · have : n ≤ s * n := Nat.le_mul_of_pos_left n z
            omega
        simp only [g, this, true_and]
      · rw [if_neg (fun z => g z.1), if_neg (fun z => g z.1)]
  · intro s c q hs hc h hM hb hz
    obtain ⟨g1, g2⟩ := rk_or1 s hs c (by omega) hb
    refine ⟨by rw [pk_un (Ne.symm g1)]; exact h.1, fun d hd => ?_⟩
    by_cases e : 2 ^ d = s ||| 2 ^ c
    · obtain ⟨rfl, rfl⟩ := g2 d hd e
      rw [rk_or0 d hd, pk_us, h.2 d hd, rk_sg0 d hd, if_neg (by omega), if_pos ⟨hM, by omega⟩, Int32.add_zero]
    · rw [pk_un e, h.2 d hd]
      by_cases g : M r d = true
      · have hdn : d < n := by
          rcases Nat.lt_or_ge d n with z | z
          · exact z
          · exact absurd ((hout d z hd).symm.trans g) (by decide)
        have : d < s * n + c ↔ d < s * n + c + 1 := by
          rcases Nat.eq_zero_or_pos s with z | z
          · subst z
            have : d ≠ c := fun w => e (by rw [w, rk_or0 c (by omega)])
            omega
          · have : n ≤ s * n := Nat.le_mul_of_pos_left n z
            omega
        simp only [g, this, true_and]
      · rw [if_neg (fun z => g z.1), if_neg (fun z => g z.1)]
  · intro q q' h h'
    refine H q q' ((h' 0 (by omega)).trans h.1) (fun c hc => ?_)
    rw [h' _ (hp c hc), h.2 c hc]
    by_cases g : M r c = true
    · rw [if_pos ⟨g, by omega⟩, if_pos g]
    · rw [if_neg (fun z => g z.1), if_neg g]
theorem rk_sum41 {post : Int32 → St2 → Prop} {k : Nat} (hk : k < 100) (H : post (rk_T a5 k 64) (nI n, t, a1, a2, a3, a4, a5, a6, a7, a8, a9, a10, a11)) : ∃ fu, wX_sum_41 post (nI k) (nI n) t a1 a2 a3 a4 a5 a6 a7 a8 a9 a10 a11 fu 0 0 :=
  pk_loop (fun m i s => wX_sum_41 post (nI k) (nI n) t a1 a2 a3 a4 a5 a6 a7 a8 a9 a10 a11 m s (nI i)) (fun i s => s = rk_T a5 k i) 64 0 0 (by omega) rfl
    (fun m s h => pk_le 64 64 (fun _ => by rw [h]; exact H) (fun z => absurd z (by omega)))
    (fun m i s hi h hw => pk_le 64 i (fun z => absurd z (by omega)) (fun _ => rk_sizeOf hi (by
      have h8 := rk_pc8 i hi
      refine pk_eq (rk_pcs i 6) k (fun e => ⟨pk_in i 64 hi, nm_e (nm_r (nI_1 i) (hw _ ?_))⟩) (fun e => nm_r (nI_1 i) (hw _ ?_))
      · rw [rk_T, if_pos e, h, nI_clamp (by omega)]
      · rw [rk_T, if_neg e, h])))
end
end
section
/-- one column's weights on the board, the first rows -/
def rk_cs (M : Nat → Nat → Bool) (V : Nat → Nat → Int32) (c : Nat) : Nat → Int32
  | 0 => 0
  | r + 1 => rk_cs M V c r + if M r c then V r c else 0
theorem rk_Tc {S S' : Nat → Int32} {k : Nat} : ∀ m, (∀ j, j < m → S j = S' j) → rk_T S k m = rk_T S' k m := by
  intro m
  induction m with
  | zero => exact fun _ => rfl
  | succ m ih =>
    intro h
    rw [rk_T, rk_T, ih (fun j hj => h j (by omega)), h m (by omega)]
theorem rk_TE : ∀ k, k < 7 → rk_T (fun s => if s = 0 then 1 else 0) k 64 = if k = 0 then 1 else 0 := by decide +kernel
theorem rk_T1 (S : Nat → Int32) : rk_T S 1 64 = 0 + S (2 ^ 0) + S (2 ^ 1) + S (2 ^ 2) + S (2 ^ 3) + S (2 ^ 4) + S (2 ^ 5) := by rfl
section
variable {t : Int32} {a1 a2 a3 a4 a5 a6 a7 a8 a9 a10 a11 : Nat → Int32} {n : Nat} {M M' : Nat → Nat → Bool} {V : Nat → Nat → Int32}
theorem rk_sumE {post : Int32 → St2 → Prop} {k : Nat} {u : St2} (h : rk_Ok n M V u) (hk : k ≤ n) (hM : ∀ r c, r < n → c < 6 → M r c = false) (H : ∀ u', rk_Ok n M V u' → post (if k = 0 then 1 else 0) u') : wpX_sum post u (nI k) := by
  obtain ⟨f, t, a1, a2, a3, a4, a5, a6, a7, a8, a9, a10, a11⟩ := u
  obtain ⟨hn, rfl, hB, h2⟩ := h
  unfold wpX_sum
  refine rk_bn0 hn.2 hk (br_t rfl (rk_clearSums (fun a ha => ?_)))
  refine pk_loop (σ := (Nat → Int32) × (Nat → Int32)) (fun m i q => wX_sum_16 post (nI k) m (nI i) (nI n) t a1 a2 a3 a4 q.1 q.2 a7 a8 a9 a10 a11) (fun i q => ∀ j, j < 64 → q.1 j = if j = 0 then 1 else 0) n 0 (a, a6) (by omega) ha ?_ ?_
  · intro m q hq
    obtain ⟨b5, b6⟩ := q
    dsimp only at hq ⊢
    refine pk_le n n (fun _ => rk_sum41 (by omega) ?_) (fun z => absurd z (by omega)) (hb := by omega)
    rw [rk_Tc 64 hq, rk_TE k (by omega)]
    exact H _ ⟨hn, rfl, hB, h2⟩
  · intro m i q hi hq hw
    obtain ⟨b5, b6⟩ := q
    dsimp only at hq hw ⊢
    exact pk_le n i (fun z => absurd z (by omega)) (fun _ => rk_sumRow0 (b := 0) (p := 1) hn hi (by omega) (by omega) hB (fun c hc => hM i c hi hc) (fun c6 c5 h5 => nm_r (nI_1 i) (hw (c5, c6) (fun j hj => (h5 j hj).trans (hq j hj)))))
theorem rk_sum1 {post : Int32 → St2 → Prop} {u : St2} (h : rk_Ok n M V u) (H : ∀ u', rk_Ok n M V u' → post (0 + rk_cs M V 0 n + rk_cs M V 1 n + rk_cs M V 2 n + rk_cs M V 3 n + rk_cs M V 4 n + rk_cs M V 5 n) u') : wpX_sum post u 1 := by
  obtain ⟨f, t, a1, a2, a3, a4, a5, a6, a7, a8, a9, a10, a11⟩ := u
  obtain ⟨hn, rfl, hB, hV, h2⟩ := h
  unfold wpX_sum
  have hp : ∀ c, c < 6 → 2 ^ c < 64 ∧ 2 ^ c ≠ 0 := by decide
  have hout : ∀ r c, r < n → n ≤ c → c < 6 → M r c = false := by
    intro r c hr h1 h2
    obtain ⟨m, hm, _, hbit⟩ := hB r hr
    rw [← hbit c h2]
    exact Nat.testBit_lt_two_pow (Nat.lt_of_lt_of_le hm (Nat.pow_le_pow_right (by omega) h1))
  refine rk_bn0 (k := 1) hn.2 hn.1 (br_t rfl (rk_clearSums (fun a ha => ?_)))
  refine pk_loop (σ := (Nat → Int32) × (Nat → Int32)) (fun m i q => wX_sum_16 post (nI 1) m (nI i) (nI n) t a1 a2 a3 a4 q.1 q.2 a7 a8 a9 a10 a11) (fun i q => q.1 0 = 1 ∧ ∀ c, c < 6 → q.1 (2 ^ c) = rk_cs M V c i) n 0 (a, a6) (by omega) ⟨ha 0 (by omega), fun c hc => (ha _ (hp c hc).1).trans (if_neg (hp c hc).2)⟩ ?_ ?_
  · intro m q hq
    obtain ⟨b5, b6⟩ := q
    obtain ⟨q0, q1⟩ := hq
    dsimp only at q0 q1 ⊢
    refine pk_le n n (fun _ => rk_sum41 (by omega) ?_) (fun z => absurd z (by omega)) (hb := by omega)
    rw [rk_T1, q1 0 (by omega), q1 1 (by omega), q1 2 (by omega), q1 3 (by omega), q1 4 (by omega), q1 5 (by omega)]
    exact H _ ⟨hn, rfl, hB, hV, h2⟩
  · intro m i q hi hq hw
    obtain ⟨b5, b6⟩ := q
    obtain ⟨q0, q1⟩ := hq
    dsimp only at q0 q1 hw ⊢
    refine pk_le n i (fun z => absurd z (by omega)) (fun _ => rk_sumRow1 hn hi hB (fun c6 c5 e0 e1 => nm_r (nI_1 i) (hw (c5, c6) ⟨e0.trans q0, fun c hc => ?_⟩)))
    show c5 (2 ^ c) = rk_cs M V c (i + 1)
    rw [e1 c hc, q1 c hc, q0, rk_cs, Int32.one_mul]
    by_cases g : M i c = true
    · have hcn : c < n := by
        rcases Nat.lt_or_ge c n with z | z
        · exact z
        · exact absurd ((hout i c hi z hc).symm.trans g) (by decide)
      rw [if_pos g, if_pos g, hV i c hi hcn]
    · rw [if_neg g, if_neg g]
theorem rk_sumB {post : Int32 → St2 → Prop} {x : Int32} {u : St2} (h : rk_Ok n M V u) (hk : rk_gn n x) (H : post (-1) u) : wpX_sum post u x := by
  obtain ⟨f, t, a1, a2, a3, a4, a5, a6, a7, a8, a9, a10, a11⟩ := u
  obtain ⟨⟨h1, hn⟩, rfl, hB, h2⟩ := h
  unfold wpX_sum
  exact rk_bn1 hk (br_f (by decide) H)
theorem rk_full : ∀ n, n < 7 → ((1 : Int32) <<< (nI n &&& 31)) - 1 = nI (2 ^ n - 1) := by decide +kernel
theorem rk_ssum0 {post : Int32 → St2 → Prop} {u : St2} (h : rk_Ok n M V u) (hM : ∃ r, r < n ∧ ∀ c, c < 6 → M r c = false) (H : ∀ u', rk_Ok n M V u' → post 0 u') : wpX_signedSum post u := by
  obtain ⟨f, t, a1, a2, a3, a4, a5, a6, a7, a8, a9, a10, a11⟩ := u
  obtain ⟨hn, rfl, hB, h2⟩ := h
  unfold wpX_signedSum
  have h64 := rk_p64 hn.2
  have hpos := Nat.two_pow_pos n
  refine rk_clearSums (fun a ha => ?_)
  refine pk_loop (σ := (Nat → Int32) × (Nat → Int32)) (fun m i q => wX_signedSum_6 post m (nI i) (nI n) t a1 a2 a3 a4 q.1 q.2 a7 a8 a9 a10 a11) (fun i q => (∃ r, r < i ∧ ∀ c, c < 6 → M r c = false) → ∀ j, j < 64 → q.1 j = 0) n 0 (a, a6) (by omega) (fun z => by obtain ⟨r, hr, _⟩ := z; omega) ?_ ?_
  · intro m q hq
    obtain ⟨b5, b6⟩ := q
    dsimp only at hq ⊢
    refine pk_le n n (fun _ => ⟨pk_in (2 ^ n - 1) 64 (by omega) (hx := rk_full n (by omega)), ?_⟩) (fun z => absurd z (by omega)) (hb := by omega)
    rw [rk_full n (by omega), nI_clamp (by omega), hq hM _ (by omega)]
    exact H _ ⟨hn, rfl, hB, h2⟩
  · intro m i q hi hq hw
    obtain ⟨b5, b6⟩ := q
    dsimp only at hq hw ⊢
    refine pk_le n i (fun z => absurd z (by omega)) (fun _ => ?_)
    by_cases e : ∀ c, c < 6 → M i c = false
    · exact rk_sumRow0 (b := 1) (p := 0) hn hi (by omega) (by omega) hB e (fun c6 c5 h5 => nm_r (nI_1 i) (hw (c5, c6) (fun _ j hj => h5 j hj)))
    · by_cases g : ∃ r, r < i ∧ ∀ c, c < 6 → M r c = false
      · exact rk_sumRowZ (b := 1) hn hi (by omega) hB (hq g) (fun c6 c5 h5 => nm_r (nI_1 i) (hw (c5, c6) (fun _ j hj => h5 j hj)))
      · refine rk_sumRowA (b := 1) (p := 0) hn hi (by omega) (by omega) hB (fun c6 c5 => nm_r (nI_1 i) (hw (c5, c6) (fun z => ?_)))
        obtain ⟨r, hr, hz⟩ := z
        by_cases er : r = i
        · subst er
          exact absurd hz e
        · exact absurd ⟨r, by omega, hz⟩ g
theorem rk_e1 : ∀ s, s < 64 → s.testBit 0 = false → s ≠ 0 → 1 ≠ s ||| 2 ^ 0 := by decide +kernel
theorem rk_ssum1 {post : Int32 → St2 → Prop} {u : St2} (h : rk_Ok 1 M V u) (hM : M 0 0 = true) (H : ∀ u', rk_Ok 1 M V u' → post (V 0 0) u') : wpX_signedSum post u := by
  obtain ⟨f, t, a1, a2, a3, a4, a5, a6, a7, a8, a9, a10, a11⟩ := u
  obtain ⟨hn, rfl, hB, hV, h2⟩ := h
  unfold wpX_signedSum
  refine rk_clearSums (n := 1) (fun a ha => ?_)
  refine ⟨2, br_f (by decide) (rk_sumRow (n := 1) (r := 0) (b := 1) (p := 0) (M := M) hn (by omega) (by omega) (by omega) hB (fun k q => q 1 = if 0 < k then V 0 0 else 0) (fun q h => by rw [h 1 (by omega)]; rfl) ?_ ?_ ?_)⟩
  · intro s c q hs hc hq hz
    have hc0 : c = 0 := by omega
    subst hc0
    rw [if_pos (by omega)]
    by_cases e : s = 0
    · subst e
      exact absurd ((ha 0 (by omega)).symm.trans (hz hM (Nat.zero_testBit 0))) (by decide)
    · rw [hq, if_pos (by omega)]
  · intro s c q hs hc hq _ hb hz
    have hc0 : c = 0 := by omega
    subst hc0
    rw [if_pos (by omega)]
    by_cases e : s = 0
    · subst e
      rw [show (0 ||| 2 ^ 0 : Nat) = 1 by decide, pk_us, hq, if_neg (by omega), rk_sg0 0 (by omega), ha 0 (by omega), if_pos rfl, Int32.one_mul, Int32.zero_add]
      exact hV 0 0 (by omega) (by omega)
    · rw [pk_un (rk_e1 s hs hb e), hq, if_pos (by omega)]
  · intro q q' hq hq'
    refine nm_r (show (0 : Int32) + 1 = nI 1 by decide) (br_t (by decide) ⟨pk_in 1 64 (by omega), ?_⟩)
    have e : (((1 : Int32) <<< (nI 1 &&& 31)) - 1).toNatClampNeg = 1 := by decide
    rw [e, hq' 1 (by omega), hq, if_pos (by omega)]
    exact H _ ⟨hn, rfl, hB, hV, h2⟩
end
end
section
/-! placements by number -/
def rk_bf (g : Nat → Nat) : Nat → Nat
  | 0 => 0
  | c + 1 => rk_bf g c + g c
theorem rk_bf0 {g : Nat → Nat} : ∀ C, (∀ c, c < C → g c = 0) → rk_bf g C = 0 := by
  intro C
  induction C with
  | zero => exact fun _ => rfl
  | succ C ih =>
    intro h
    rw [rk_bf, ih (fun c hc => h c (by omega)), h C (by omega)]
/-- ways behind a rook of row r in column c -/
def rk_g (n : Nat) (M : Nat → Nat → Bool) (r s k : Nat) (c : Nat) : Nat := if M r c && !(s.testBit c) then rk_W M (n - (r + 1)) (r + 1) k (s ||| 2 ^ c) else 0
section
variable {t : Int32} {a1 a2 a3 a4 a5 a6 a7 a8 a9 a10 a11 : Nat → Int32} {n : Nat} {M M' : Nat → Nat → Bool} {V : Nat → Nat → Int32}
theorem rk_bef0 {post : Int32 → St2 → Prop} {u : St2} {x y z : Int32} (H : post 0 u) : wpX_before post u x y 0 z := by
  obtain ⟨f, t, a1, a2, a3, a4, a5, a6, a7, a8, a9, a10, a11⟩ := u
  exact br_t rfl H
theorem rk_bef {post : Int32 → St2 → Prop} {r s k C : Nat} (hn : n ≤ 6) (hr : r < n) (hs : s < 2 ^ n) (hk : k < 99) (hC : C ≤ n) (hB : rk_Bd n M a1)
    (H : ∀ a b, post (nI (rk_bf (rk_g n M r s k) C)) (nI n, t, a1, a2, a, b, a5, a6, a7, a8, a9, a10, a11)) : wpX_before post (nI n, t, a1, a2, a3, a4, a5, a6, a7, a8, a9, a10, a11) (nI r) (nI s) (nI (k + 1)) (nI C) := by
  have h64 := rk_p64 hn
  obtain ⟨m, hm, ha, hbit⟩ := hB r hr
  refine br_f (nI_ne0 (by omega) (by omega)) ?_
  rw [nI_pred]
  refine rk_findWays hn (by omega) hB (fun a b hab => ?_)
  refine pk_loop (fun fu i v => wX_before_19 post (nI r) (nI s) (nI C) (nI n) t a1 a2 a b a5 a6 a7 a8 a9 a10 a11 fu v (nI i)) (fun i v => v = nI (rk_bf (rk_g n M r s k) i)) C 0 0 (by omega) rfl
    (fun fu v h => pk_le C C (fun _ => by rw [h]; exact H a b) (fun z => absurd z (by omega))) ?_
  intro fu i v hi h hw
  refine pk_le C i (fun z => absurd z (by omega)) (fun _ => ⟨pk_in r 6 (by omega), ?_⟩)
  rw [nI_clamp (show r < 2 ^ 31 by omega), ha]
  have hM := hbit i (by omega)
  have hp : 2 ^ i < 2 ^ n := Nat.pow_lt_pow_right (by omega) (by omega)
  have ho : s ||| 2 ^ i < 2 ^ n := Nat.or_lt_two_pow hs hp
  refine ek_if (rk_b1 m (by omega) i (by omega)) (fun e => ek_if (rk_b0 s (by omega) i (by omega)) (fun g => ?_) (fun g => ?_)) (fun e => ?_)
  · refine br_f (by decide) ?_
    rw [rk_shl i (by omega), rk_or, rk_ix1]
    refine ⟨pk_in (64 * (r + 1) + (s ||| 2 ^ i)) 448 (by omega), nm_r (show _ = nI (rk_bf (rk_g n M r s k) (i + 1)) from ?_) (nm_r (nI_1 i) (hw _ rfl))⟩
    rw [nI_clamp (by omega), hab (r + 1) _ (by omega) ho, h, nI_add, rk_bf, rk_g, if_pos (by rw [← hM, e, g]; rfl)]
  · refine br_t rfl (nm_r (nI_1 i) (hw _ ?_))
    rw [h, rk_bf, rk_g, if_neg (by simp only [Bool.and_eq_true, Bool.not_eq_true']; exact fun z => g z.2)]
    rfl
  · refine br_t rfl (nm_r (nI_1 i) (hw _ ?_))
    rw [h, rk_bf, rk_g, if_neg (by rw [← hM]; simp only [Bool.and_eq_true, Bool.not_eq_true']; exact fun z => e z.1)]
    rfl
theorem rk_ci0 {post : Int32 → St2 → Prop} {x y : Int32} (hn : n ≤ 6) (H : post (nI n) (nI n, t, a1, a2, a3, a4, a5, a6, a7, a8, a9, a10, a11)) : wpX_columnIn post (nI n, t, a1, a2, a3, a4, a5, a6, a7, a8, a9, a10, a11) x y 0 0 :=
  pk_loop (σ := Unit) (fun fu i _ => wX_columnIn_3 post x y 0 0 fu (nI i) (nI n) t a1 a2 a3 a4 a5 a6 a7 a8 a9 a10 a11) (fun _ _ => True) n 0 () (by omega) trivial
    (fun fu _ _ => pk_le n n (fun _ => H) (fun z => absurd z (by omega)))
    (fun fu i _ hi _ hw => pk_le n i (fun z => absurd z (by omega)) (fun _ => rk_bef0 (br_f (by decide) (nm_r (nI_1 i) (hw () trivial)))))
theorem rk_ci {post : Int32 → St2 → Prop} {r s k C : Nat} (hn : n ≤ 6) (hr : r < n) (hs : s < 2 ^ n) (hk : k < 99) (hC : C ≤ n) (hB : rk_Bd n M a1) (h0 : ∀ c, c < C → rk_bf (rk_g n M r s k) (c + 1) = 0) (h1 : C < n → 0 < rk_bf (rk_g n M r s k) (C + 1) ∧ rk_bf (rk_g n M r s k) (C + 1) < 2 ^ 31)
    (H : ∀ a b, post (nI C) (nI n, t, a1, a2, a, b, a5, a6, a7, a8, a9, a10, a11)) : wpX_columnIn post (nI n, t, a1, a2, a3, a4, a5, a6, a7, a8, a9, a10, a11) (nI r) (nI s) (nI (k + 1)) 0 := by
  refine pk_loop (σ := (Nat → Int32) × (Nat → Int32)) (fun fu i q => wX_columnIn_3 post (nI r) (nI s) (nI (k + 1)) 0 fu (nI i) (nI n) t a1 a2 q.1 q.2 a5 a6 a7 a8 a9 a10 a11) (fun _ _ => True) C 0 (a3, a4) (by omega) trivial ?_ ?_
  · intro fu q _
    refine pk_le n C (fun z => ?_) (fun z => ?_)
    · exact H _ _
    · rw [nI_1]
      refine rk_bef hn hr hs hk (by omega) hB (fun a b => br_t (nI_lt (a := 0) (h1 z).1 (h1 z).2) (H a b))
  · intro fu i q hi _ hw
    refine pk_le n i (fun z => absurd z (by omega)) (fun _ => ?_)
    rw [nI_1]
    refine rk_bef hn hr hs hk (by omega) hB (fun a b => ?_)
    rw [h0 i hi]
    exact br_f (by decide) (nm_r rfl (hw (a, b) trivial))
/-! column: the ways out -/
theorem rk_columnN {post : Int32 → St2 → Prop} {x y z : Int32} {u : St2} (h : rk_Ok n M V u) (hk : rk_gn n x) (H : post (-1) u) : wpX_column post u x y z := by
  obtain ⟨f, t, a1, a2, a3, a4, a5, a6, a7, a8, a9, a10, a11⟩ := u
  obtain ⟨⟨h1, hn⟩, rfl, hB, h2⟩ := h
  unfold wpX_column
  exact rk_bn1 hk (br_f (by decide) H)
/-- a row is bad -/
def rk_gr (n : Nat) (x : Int32) : Prop := x < 0 ∨ (¬ x < 0 ∧ nI n ≤ x)
theorem rk_columnR {post : Int32 → St2 → Prop} {k : Nat} {y z : Int32} {u : St2} (h : rk_Ok n M V u) (hk : k ≤ n) (hr : rk_gr n z) (H : post (-1) u) : wpX_column post u (nI k) y z := by
  obtain ⟨f, t, a1, a2, a3, a4, a5, a6, a7, a8, a9, a10, a11⟩ := u
  obtain ⟨⟨h1, hn⟩, rfl, hB, h2⟩ := h
  unfold wpX_column
  refine rk_bn0 hn hk (br_t rfl ?_)
  rcases hr with g | ⟨g, g2⟩
  · exact br_t g H
  · exact br_f g (br_f (fun z => absurd (Int32.not_le.mpr z) (fun w => w g2)) H)
theorem rk_columnX {post : Int32 → St2 → Prop} {k r : Nat} {y : Int32} {u : St2} (h : rk_Ok n M V u) (hk : k ≤ n) (hr : r < n) (hy : y < 0 ∨ (¬ y < 0 ∧ ¬ y < nI (rk_W M n 0 k 0))) (H : ∀ u', rk_Ok n M V u' → post (-4) u') : wpX_column post u (nI k) y (nI r) := by
  obtain ⟨f, t, a1, a2, a3, a4, a5, a6, a7, a8, a9, a10, a11⟩ := u
  obtain ⟨⟨h1, hn⟩, rfl, hB, h2⟩ := h
  unfold wpX_column
  refine rk_bn0 hn hk (br_t rfl (br_f (nI_pos (by omega)) (br_t (nI_lt hr (by omega)) (rk_countOf hn (by omega) hB (fun a b => ?_)))))
  rcases hy with g | ⟨g, g2⟩
  · exact br_t g (H _ ⟨⟨h1, hn⟩, rfl, hB, h2⟩)
  · exact br_f g (br_f g2 (H _ ⟨⟨h1, hn⟩, rfl, hB, h2⟩))
theorem rk_column0 {post : Int32 → St2 → Prop} {r : Nat} {u : St2} (h : rk_Ok n M V u) (hr : r < n) (H : ∀ u', rk_Ok n M V u' → post (nI n) u') : wpX_column post u 0 0 (nI r) := by
  obtain ⟨f, t, a1, a2, a3, a4, a5, a6, a7, a8, a9, a10, a11⟩ := u
  obtain ⟨⟨h1, hn⟩, rfl, hB, h2⟩ := h
  unfold wpX_column
  refine rk_bn0 (k := 0) hn (by omega) (br_t rfl (br_f (nI_pos (by omega)) (br_t (nI_lt hr (by omega)) (rk_countOf (k := 0) hn (by omega) hB (fun a b => ?_)))))
  rw [rk_W0]
  refine br_f (by decide) (br_t (by decide) ?_)
  exact pk_loop (σ := Unit) (fun fu i _ => wX_column_60 post (nI r) fu 0 0 0 (nI n) (nI i) (nI n) t a1 a2 a b a5 a6 a7 a8 a9 a10 a11) (fun _ _ => True) (r + 1) 0 () (by omega) trivial
    (fun fu _ _ => pk_lt r (r + 1) (fun _ => H _ ⟨⟨h1, hn⟩, rfl, hB, h2⟩) (fun z => absurd z (by omega)))
    (fun fu i _ hi _ hw => pk_lt r i (fun z => absurd z (by omega)) (fun _ => rk_ci0 hn (rk_bef0 (nm_r (show _ = (0 : Int32) by decide) (br_t (nI_le (Nat.le_refl n) (by omega)) (nm_r (nI_1 i) (hw () trivial)))))))
theorem rk_columnS {post : Int32 → St2 → Prop} {p q r : Nat} {u : St2} (h : rk_Ok n M V u) (hp : p < n) (hq : q < n) (hM : ∀ r c, r < n → c < 6 → M r c = (r == p && c == q)) (hW : rk_W M n 0 1 0 = 1) (hr : r < n)
    (H : ∀ u', rk_Ok n M V u' → post (nI (if r = p then q else n)) u') : wpX_column post u 1 0 (nI r) := by
  obtain ⟨f, t, a1, a2, a3, a4, a5, a6, a7, a8, a9, a10, a11⟩ := u
  obtain ⟨⟨h1, hn⟩, rfl, hB, h2⟩ := h
  unfold wpX_column
  have h64 := rk_p64 hn
  have hpos := Nat.two_pow_pos n
  have gz : ∀ i c, i < n → c < 6 → ¬ (i = p ∧ c = q) → rk_g n M i 0 0 c = 0 := by
    intro i c hi hc g
    have : M i c = false := by
      rw [hM i c hi hc]
      simp only [Bool.and_eq_false_iff, beq_eq_false_iff_ne]
      omega
    rw [rk_g, this]
    rfl
  have g1 : rk_g n M p 0 0 q = 1 := by
    have : M p q = true := by
      rw [hM p q hp (by omega)]
      simp
    rw [rk_g, this, Nat.zero_testBit, rk_W0]
    rfl
  refine rk_bn0 (k := 1) hn h1 (br_t rfl (br_f (nI_pos (by omega)) (br_t (nI_lt hr (by omega)) (rk_countOf (k := 1) hn (by omega) hB (fun a b => ?_)))))
  rw [hW]
  refine br_f (by decide) (br_t (by decide) ?_)
  refine pk_loop (σ := (Nat → Int32) × (Nat → Int32)) (fun fu i s => wX_column_60 post (nI r) fu 0 (nI (if p < i then 0 else 1)) (nI (if p < i then 2 ^ q else 0)) (nI (if i = p + 1 then q else n)) (nI i) (nI n) t a1 a2 s.1 s.2 a5 a6 a7 a8 a9 a10 a11) (fun _ _ => True) (r + 1) 0 (a, b) (by omega) trivial ?_ ?_
  · intro fu s _
    refine pk_lt r (r + 1) (fun _ => ?_) (fun z => absurd z (by omega))
    have := H (nI n, t, a1, a2, s.1, s.2, a5, a6, a7, a8, a9, a10, a11) ⟨⟨h1, hn⟩, rfl, hB, h2⟩
    by_cases e : r = p
    · rw [if_pos e] at this
      rw [if_pos (show r + 1 = p + 1 by omega)]
      exact this
    · rw [if_neg e] at this
      rw [if_neg (show ¬ r + 1 = p + 1 by omega)]
      exact this
  · intro fu i s hi _ hw
    obtain ⟨b3, b4⟩ := s
    dsimp only at hw ⊢
    refine pk_lt r i (fun z => absurd z (by omega)) (fun _ => ?_)
    by_cases e : p < i
    · rw [if_pos e, if_pos e]
      rw [if_pos (show p < i + 1 by omega), if_pos (show p < i + 1 by omega), if_neg (show ¬ i + 1 = p + 1 by omega)] at hw
      exact rk_ci0 hn (rk_bef0 (nm_r (show _ = (0 : Int32) by decide) (br_t (nI_le (Nat.le_refl n) (by omega)) (nm_r (nI_1 i) (hw (b3, b4) trivial)))))
    · rw [if_neg e, if_neg e]
      by_cases g : i = p
      · subst g
        rw [if_pos (show i < i + 1 by omega), if_pos (show i < i + 1 by omega), if_pos rfl] at hw
        refine rk_ci (k := 0) (C := q) hn hp hpos (by omega) (by omega) hB (fun c hc => rk_bf0 _ (fun d hd => gz i d hp (by omega) (by omega))) (fun _ => ?_) (fun c3 c4 => ?_)
        · have : rk_bf (rk_g n M i 0 0) (q + 1) = 1 := by
            rw [rk_bf, g1, rk_bf0 _ (fun d hd => gz i d hp (by omega) (by omega))]
          rw [this]
          decide
        · refine rk_bef (k := 0) (C := q) hn hp hpos (by omega) (by omega) hB (fun d3 d4 => ?_)
          rw [rk_bf0 _ (fun d hd => gz i d hp (by omega) (by omega))]
          refine nm_r (show _ = (0 : Int32) by decide) (br_f (nI_ge hq (by omega)) (nm_r (show _ = nI (2 ^ q) from ?_) (nm_r (show _ = nI 0 by decide) (nm_r (nI_1 i) (hw (d3, d4) trivial)))))
          rw [rk_shl q (by omega), rk_or, Nat.zero_or]
      · rw [if_neg (show ¬ p < i + 1 by omega), if_neg (show ¬ p < i + 1 by omega), if_neg (show ¬ i + 1 = p + 1 by omega)] at hw
        have z0 : ∀ C, C ≤ n → rk_bf (rk_g n M i 0 0) C = 0 := fun C hC => rk_bf0 _ (fun d hd => gz i d (by omega) (by omega) (by omega))
        refine rk_ci (k := 0) (C := n) hn (by omega) hpos (by omega) (by omega) hB (fun c hc => z0 _ (by omega)) (fun z => absurd z (by omega)) (fun c3 c4 => ?_)
        refine rk_bef (k := 0) (C := n) hn (by omega) hpos (by omega) (by omega) hB (fun d3 d4 => ?_)
        rw [z0 n (by omega)]
        exact nm_r (show _ = (0 : Int32) by decide) (br_t (nI_le (Nat.le_refl n) (by omega)) (nm_r (nI_1 i) (hw (d3, d4) trivial)))
theorem rk_columnF {post : Int32 → St2 → Prop} {u : St2} (h : rk_Ok n M V u) (hM : M 0 0 = true) (hW : 0 < rk_W M n 0 n 0 ∧ rk_W M n 0 n 0 < 2 ^ 31) (hW1 : 0 < rk_W M (n - 1) 1 (n - 1) 1 ∧ rk_W M (n - 1) 1 (n - 1) 1 < 2 ^ 31)
    (H : ∀ u', rk_Ok n M V u' → post 0 u') : wpX_column post u (nI n) 0 0 := by
  obtain ⟨f, t, a1, a2, a3, a4, a5, a6, a7, a8, a9, a10, a11⟩ := u
  obtain ⟨⟨h1, hn⟩, rfl, hB, h2⟩ := h
  unfold wpX_column
  have hpos := Nat.two_pow_pos n
  have e1 : rk_bf (rk_g n M 0 0 (n - 1)) (0 + 1) = rk_W M (n - 1) 1 (n - 1) 1 := by
    rw [rk_bf, rk_bf, rk_g, hM, Nat.zero_testBit]
    exact Nat.zero_add _
  refine rk_bn0 hn (by omega) (br_t rfl (br_f (by decide) (br_t (nI_lt (a := 0) (by omega) (by omega)) (rk_countOf hn (by omega) hB (fun a b => ?_)))))
  refine br_f (by decide) (br_t (nI_lt (a := 0) hW.1 hW.2) ⟨2, br_f (by decide) ?_⟩)
  have en : nI n = nI (n - 1 + 1) := by rw [show n - 1 + 1 = n by omega]
  have key : ∀ ps : Int32 → St2 → Prop, (∀ c3 c4, ps 0 (nI n, t, a1, a2, c3, c4, a5, a6, a7, a8, a9, a10, a11)) → wpX_columnIn ps (nI n, t, a1, a2, a, b, a5, a6, a7, a8, a9, a10, a11) 0 0 (nI n) 0 := by
    intro ps hps
    have := rk_ci (post := ps) (t := t) (a2 := a2) (a3 := a) (a4 := b) (a5 := a5) (a6 := a6) (a7 := a7) (a8 := a8) (a9 := a9) (a10 := a10) (a11 := a11) (r := 0) (s := 0) (k := n - 1) (C := 0) hn (by omega) hpos (by omega) (by omega) hB (fun c hc => absurd hc (by omega)) (fun _ => by rw [e1]; exact hW1) hps
    rw [← en] at this
    exact this
  have key2 : ∀ (ps : Int32 → St2 → Prop) c3 c4, (∀ d3 d4, ps 0 (nI n, t, a1, a2, d3, d4, a5, a6, a7, a8, a9, a10, a11)) → wpX_before ps (nI n, t, a1, a2, c3, c4, a5, a6, a7, a8, a9, a10, a11) 0 0 (nI n) 0 := by
    intro ps c3 c4 hps
    have := rk_bef (post := ps) (t := t) (a2 := a2) (a3 := c3) (a4 := c4) (a5 := a5) (a6 := a6) (a7 := a7) (a8 := a8) (a9 := a9) (a10 := a10) (a11 := a11) (r := 0) (s := 0) (k := n - 1) (C := 0) hn (by omega) hpos (by omega) (by omega) hB hps
    rw [← en] at this
    exact this
  refine key _ (fun c3 c4 => key2 _ c3 c4 (fun d3 d4 => nm_e (br_f (nI_ge (a := 0) (by omega) (by omega)) (nm_e (nm_e (nm_e (br_t (by decide) (H _ ⟨⟨h1, hn⟩, rfl, hB, h2⟩))))))))
end
end
section
/-! the board's own calls -/
def rk_sw (i j r : Nat) : Nat := if r = i then j else if r = j then i else r
def rk_put (M : Nat → Nat → Bool) (r c : Nat) (b : Bool) (r' c' : Nat) : Bool := if r' = r ∧ c' = c then b else M r' c'
theorem rk_putT (M : Nat → Nat → Bool) (r c r' c' : Nat) : rk_put M r c true r' c' = (M r' c' || (r' == r && c' == c)) := by
  unfold rk_put
  by_cases g : r' = r ∧ c' = c
  · rw [if_pos g]
    obtain ⟨rfl, rfl⟩ := g
    simp
  · rw [if_neg g]
    have : (r' == r && c' == c) = false := by
      simp only [Bool.and_eq_false_iff, beq_eq_false_iff_ne]
      omega
    simp [this]
theorem rk_putF (M : Nat → Nat → Bool) (r c r' c' : Nat) : rk_put M r c false r' c' = (M r' c' && !(r' == r && c' == c)) := by
  unfold rk_put
  by_cases g : r' = r ∧ c' = c
  · rw [if_pos g]
    obtain ⟨rfl, rfl⟩ := g
    simp
  · rw [if_neg g]
    have : (r' == r && c' == c) = false := by
      simp only [Bool.and_eq_false_iff, beq_eq_false_iff_ne]
      omega
    simp [this]
theorem rk_BdC {n : Nat} {M M' : Nat → Nat → Bool} {a : Nat → Int32} (hB : rk_Bd n M a) (h : ∀ r c, r < n → c < 6 → M r c = M' r c) : rk_Bd n M' a := by
  intro r hr
  obtain ⟨m, hm, e, hb⟩ := hB r hr
  exact ⟨m, hm, e, fun c hc => (hb c hc).trans (h r c hr hc)⟩
section
variable {t : Int32} {a1 a2 a3 a4 a5 a6 a7 a8 a9 a10 a11 : Nat → Int32} {n : Nat} {M M' : Nat → Nat → Bool} {V V' : Nat → Nat → Int32}
theorem rk_setB {post : Int32 → St2 → Prop} {x y : Int32} {u : St2} (h : rk_Ok n M V u) (hk : rk_gc n x) (H : post (-1) u) : wpX_set post u x y := by
  obtain ⟨f, t, a1, a2, a3, a4, a5, a6, a7, a8, a9, a10, a11⟩ := u
  obtain ⟨⟨h1, hn⟩, rfl, hB, h2⟩ := h
  unfold wpX_set
  exact rk_bc1 hk (br_f (by decide) H)
theorem rk_set {post : Int32 → St2 → Prop} {r c : Nat} {y : Int32} {u : St2} (h : rk_Ok n M V u) (hr : r < n) (hc : c < n) (h0 : y = 0 → ∀ r' c', r' < n → c' < 6 → M' r' c' = (M r' c' && !(r' == r && c' == c))) (h1 : ¬ y = 0 → ∀ r' c', r' < n → c' < 6 → M' r' c' = (M r' c' || (r' == r && c' == c)))
    (H : ∀ u', rk_Ok n M' V u' → post (if M r c then 1 else 0) u') : wpX_set post u (nI (6 * r + c)) y := by
  obtain ⟨f, t, a1, a2, a3, a4, a5, a6, a7, a8, a9, a10, a11⟩ := u
  obtain ⟨⟨h1n, hn⟩, rfl, hB, h2⟩ := h
  unfold wpX_set
  obtain ⟨m, hm, e, hb⟩ := hB r hr
  have h64 := rk_p64 hn
  refine rk_bc0 hn hr hc (br_t rfl ⟨by decide, nm_r (rk_c6 (by omega) (by omega)) ⟨by decide, nm_r (show _ = nI (2 ^ c) by rw [rk_m6 (by omega) (by omega)]; exact rk_shl c (by omega)) ⟨pk_in r 6 (by omega), ?_⟩⟩⟩)
  have key : ∀ z : Int32, z = (if M r c then 1 else 0) → wX_set_40 post y (nI r) (nI (2 ^ c)) z (nI n) t a1 a2 a3 a4 a5 a6 a7 a8 a9 a10 a11 := by
    intro z hz
    subst hz
    unfold wX_set_40
    rw [nI_clamp (show r < 2 ^ 31 by omega)]
    exact br_c (fun g => ⟨pk_in r 6 (by omega), pk_in r 6 (by omega), nm_e (H _ ⟨⟨h1n, hn⟩, rfl, rk_BdClr hn hB hr (by omega) (h0 g), h2⟩)⟩) (fun g => ⟨pk_in r 6 (by omega), pk_in r 6 (by omega), nm_e (H _ ⟨⟨h1n, hn⟩, rfl, rk_BdSet hn hB hr hc (h1 g), h2⟩)⟩)
  rw [nI_clamp (show r < 2 ^ 31 by omega), e]
  refine ek_if (rk_a0 m (by omega) c (by omega)) (fun g => key 0 ?_) (fun g => key 1 ?_)
  · rw [← hb c (by omega), g]
    rfl
  · rw [← hb c (by omega), if_pos]
    simpa using g
theorem rk_weightB {post : Int32 → St2 → Prop} {x y : Int32} {u : St2} (h : rk_Ok n M V u) (hk : rk_gc n x) (H : post (-1) u) : wpX_weight post u x y := by
  obtain ⟨f, t, a1, a2, a3, a4, a5, a6, a7, a8, a9, a10, a11⟩ := u
  obtain ⟨⟨h1, hn⟩, rfl, hB, h2⟩ := h
  unfold wpX_weight
  exact rk_bc1 hk (br_f (by decide) H)
theorem rk_weight {post : Int32 → St2 → Prop} {r c : Nat} {y : Int32} {u : St2} (h : rk_Ok n M V u) (hr : r < n) (hc : c < n) (hV : ∀ r' c', r' < n → c' < n → V' r' c' = if r' = r ∧ c' = c then y else V r' c')
    (H : ∀ u', rk_Ok n M V' u' → post 0 u') : wpX_weight post u (nI (6 * r + c)) y := by
  obtain ⟨f, t, a1, a2, a3, a4, a5, a6, a7, a8, a9, a10, a11⟩ := u
  obtain ⟨⟨h1, hn⟩, rfl, hB, h2, h3⟩ := h
  unfold wpX_weight
  refine rk_bc0 hn hr hc (br_t rfl ⟨pk_in (6 * r + c) 36 (by omega), nm_e (H _ ⟨⟨h1, hn⟩, rfl, hB, fun r' c' hr' hc' => ?_, h3⟩)⟩)
  rw [nI_clamp (by omega), hV r' c' hr' hc']
  by_cases g : r' = r ∧ c' = c
  · obtain ⟨rfl, rfl⟩ := g
    rw [pk_us, if_pos ⟨rfl, rfl⟩]
  · rw [pk_un (by omega), if_neg g]
    exact h2 r' c' hr' hc'
theorem rk_exchangeB {post : Int32 → St2 → Prop} {x y : Int32} {u : St2} (h : rk_Ok n M V u) (hk : rk_gr n x ∨ (¬ x < 0 ∧ ¬ nI n ≤ x ∧ rk_gr n y)) (H : post (-1) u) : wpX_exchange post u x y := by
  obtain ⟨f, t, a1, a2, a3, a4, a5, a6, a7, a8, a9, a10, a11⟩ := u
  obtain ⟨⟨h1, hn⟩, rfl, hB, h2⟩ := h
  rcases hk with (g | ⟨g, g2⟩) | ⟨g, g2, g3 | ⟨g3, g4⟩⟩
  · exact br_t g H
  · exact br_f g (br_t g2 H)
  · exact br_f g (br_f g2 (br_t g3 H))
  · exact br_f g (br_f g2 (br_f g3 (br_f (fun z => absurd (Int32.not_le.mpr z) (fun w => w g4)) H)))
theorem rk_exchange {post : Int32 → St2 → Prop} {i j : Nat} {u : St2} (h : rk_Ok n M V u) (hi : i < n) (hj : j < n) (hM : ∀ r c, r < n → c < 6 → M' r c = M (rk_sw i j r) c) (hV : ∀ r c, r < n → c < n → V' r c = V (rk_sw i j r) c)
    (H : ∀ u', rk_Ok n M' V' u' → post 0 u') : wpX_exchange post u (nI i) (nI j) := by
  obtain ⟨f, t, a1, a2, a3, a4, a5, a6, a7, a8, a9, a10, a11⟩ := u
  obtain ⟨⟨h1, hn⟩, rfl, hB, h2, h3⟩ := h
  have h64 := rk_p64 hn
  obtain ⟨mi, hmi, ei, hbi⟩ := hB i hi
  obtain ⟨mj, hmj, ej, hbj⟩ := hB j hj
  refine br_f (nI_pos (by omega)) (br_f (nI_ge hi (by omega)) (br_f (nI_pos (by omega)) (br_t (nI_lt hj (by omega)) ⟨pk_in i 6 (by omega), nm_r (show _ = nI mi by rw [nI_clamp (by omega), ei]) ⟨pk_in j 6 (by omega), pk_in i 6 (by omega), nm_r (show _ = upd a1 i (nI mj) by rw [nI_clamp (by omega), nI_clamp (by omega), ej, rk_nar (by omega)]) ⟨pk_in j 6 (by omega), nm_r (show _ = upd (upd a1 i (nI mj)) j (nI mi) by rw [nI_clamp (by omega), rk_nar (by omega)]) ?_⟩⟩⟩)))
  have hB' : rk_Bd n M' (upd (upd a1 i (nI mj)) j (nI mi)) := by
    intro r hr
    by_cases e2 : r = j
    · subst e2
      refine ⟨mi, hmi, pk_us, fun c hc => ?_⟩
      rw [hbi c hc, hM r c hr hc]
      unfold rk_sw
      by_cases e : r = i
      · rw [if_pos e, e]
      · rw [if_neg e, if_pos rfl]
    · by_cases e : r = i
      · subst e
        refine ⟨mj, hmj, by rw [pk_un e2, pk_us], fun c hc => ?_⟩
        rw [hbj c hc, hM r c hr hc]
        unfold rk_sw
        rw [if_pos rfl]
      · obtain ⟨m, hm, em, hb⟩ := hB r hr
        refine ⟨m, hm, by rw [pk_un e2, pk_un e, em], fun c hc => ?_⟩
        rw [hb c hc, hM r c hr hc]
        unfold rk_sw
        rw [if_neg e, if_neg e2]
  refine pk_loop (fun fu k s => wX_exchange_55 post (nI i) (nI j) (nI n) t fu (nI k) (upd (upd a1 i (nI mj)) j (nI mi)) s a3 a4 a5 a6 a7 a8 a9 a10 a11)
    (fun k s => ∀ r c, r < n → c < n → s (6 * r + c) = if c < k then V (rk_sw i j r) c else V r c) n 0 a2 (by omega) (fun r c hr hc => by rw [if_neg (by omega)]; exact h2 r c hr hc) ?_ ?_
  · intro fu s hs
    refine pk_le n n (fun _ => H _ ⟨⟨h1, hn⟩, rfl, hB', fun r c hr hc => ?_, h3⟩) (fun z => absurd z (by omega)) (hb := by omega)
    rw [hs r c hr hc, if_pos hc, hV r c hr hc]
  · intro fu k s hk hs hw
    refine pk_le n k (fun z => absurd z (by omega)) (fun _ => ?_)
    rw [rk_6, rk_6, nI_clamp (show 6 * i + k < 2 ^ 31 by omega), nI_clamp (show 6 * j + k < 2 ^ 31 by omega)]
    refine ⟨pk_in (6 * i + k) 36 (by omega), nm_e ⟨pk_in (6 * j + k) 36 (by omega), pk_in (6 * i + k) 36 (by omega), nm_e ⟨pk_in (6 * j + k) 36 (by omega), nm_e (nm_r (nI_1 k) (hw _ (fun r c hr hc => ?_)))⟩⟩⟩
    by_cases e2 : r = j ∧ c = k
    · obtain ⟨rfl, rfl⟩ := e2
      rw [pk_us, if_pos (by omega), hs i c hi hc, if_neg (by omega)]
      unfold rk_sw
      by_cases e : r = i
      · rw [if_pos e, e]
      · rw [if_neg e, if_pos rfl]
    · rw [pk_un (by omega)]
      by_cases e : r = i ∧ c = k
      · obtain ⟨rfl, rfl⟩ := e
        rw [pk_us, if_pos (by omega), hs j c hj hc, if_neg (by omega)]
        unfold rk_sw
        rw [if_pos rfl]
      · rw [pk_un (by omega), hs r c hr hc]
        by_cases g : c < k
        · rw [if_pos g, if_pos (by omega)]
        · by_cases g2 : c = k
          · have q1 : r ≠ i := fun z => e ⟨z, g2⟩
            have q2 : r ≠ j := fun z => e2 ⟨z, g2⟩
            rw [if_neg g, if_pos (by omega)]
            unfold rk_sw
            rw [if_neg q1, if_neg q2]
          · rw [if_neg g, if_neg (by omega)]
theorem rk_complement {post : Int32 → St2 → Prop} {u : St2} (h : rk_Ok n M V u) (hM : ∀ r c, r < n → c < 6 → M' r c = (decide (c < n) && !(M r c)))
    (H : ∀ u', rk_Ok n M' V u' → post (nI (rk_cl M' n)) u') : wpX_complement post u := by
  obtain ⟨f, t, a1, a2, a3, a4, a5, a6, a7, a8, a9, a10, a11⟩ := u
  obtain ⟨⟨h1, hn⟩, rfl, hB, h2⟩ := h
  have h64 := rk_p64 hn
  have hpos := Nat.two_pow_pos n
  refine pk_loop (fun fu i s => wX_complement_2 post (nI n) t fu (nI i) s a2 a3 a4 a5 a6 a7 a8 a9 a10 a11) (fun i s => rk_Bd n (fun r c => if r < i then M' r c else M r c) s) n 0 a1 (by omega) (rk_BdC hB (fun r c _ _ => (if_neg (by omega)).symm)) ?_ ?_
  · intro fu s hs
    have hB' : rk_Bd n M' s := rk_BdC hs (fun r c hr _ => if_pos hr)
    exact pk_le n n (fun _ => rk_cells0 hn hB' (H _ ⟨⟨h1, hn⟩, rfl, hB', h2⟩)) (fun z => absurd z (by omega)) (hb := by omega)
  · intro fu i s hi hs hw
    obtain ⟨m, hm, e, hb⟩ := hs i hi
    refine pk_le n i (fun z => absurd z (by omega)) (fun _ => ⟨pk_in i 6 (by omega), pk_in i 6 (by omega), nm_r (show _ = upd s i (nI ((2 ^ n - 1) &&& (63 ^^^ m))) from ?_) (nm_r (nI_1 i) (hw _ ?_))⟩)
    · rw [nI_clamp (by omega), e, rk_full n (by omega), rk_dif _ (by omega) m (by omega), rk_byte _ (Nat.lt_of_le_of_lt Nat.and_le_left (by omega))]
    · intro r hr
      by_cases g : r = i
      · subst g
        refine ⟨_, Nat.lt_of_le_of_lt Nat.and_le_left (by omega), pk_us, fun c hc => ?_⟩
        have hbc := hb c hc
        dsimp only at hbc ⊢
        rw [if_neg (by omega)] at hbc
        rw [Nat.testBit_and, Nat.testBit_two_pow_sub_one, Nat.testBit_xor, rk_t63 c hc, Bool.true_xor, hbc, if_pos (by omega), hM r c hr hc]
      · obtain ⟨m', hm', e', hb'⟩ := hs r hr
        refine ⟨m', hm', by rw [pk_un g, e'], fun c hc => ?_⟩
        rw [hb' c hc]
        dsimp only
        by_cases q : r < i
        · rw [if_pos q, if_pos (by omega)]
        · rw [if_neg q, if_neg (by omega)]
/-! turn -/
theorem rk_t146 {post : Int32 → St2 → Prop} {J : Int32 → (Nat → Int32) → (Nat → Int32) → (Nat → Int32) → (Nat → Int32) → (Nat → Int32) → (Nat → Int32) → (Nat → Int32) → (Nat → Int32) → (Nat → Int32) → (Nat → Int32) → (Nat → Int32) → Prop}
    {k r c : Nat} {b : Bool} {v : Int32} (hn : n ≤ 6) (hr : r < n) (hc : c < n) (hB : rk_Bd n M (upd a1 r v.toInt8.toInt32)) (H : ∀ a, rk_Bd n (rk_put M c r b) a → J (nI (k + 1)) a a2 a3 a4 a5 a6 a7 a8 a9 a10 a11) :
    wX_turn_146 post J (nI k) (nI r) (nI c) (if b then 1 else 0) v (nI r) (nI n) t a1 a2 a3 a4 a5 a6 a7 a8 a9 a10 a11 := by
  unfold wX_turn_146
  rw [nI_clamp (show r < 2 ^ 31 by omega), nI_clamp (show c < 2 ^ 31 by omega), rk_shl r (by omega)]
  refine ⟨pk_in r 6 (by omega), nm_e ?_⟩
  cases b with
  | false => exact br_t rfl ⟨pk_in c 6 (by omega), pk_in c 6 (by omega), nm_e (nm_r (nI_1 k) (H _ (rk_BdClr hn hB hc (by omega) (fun r' c' _ _ => rk_putF M c r r' c'))))⟩
  | true => exact br_f (by decide) ⟨pk_in c 6 (by omega), pk_in c 6 (by omega), nm_e (nm_r (nI_1 k) (H _ (rk_BdSet hn hB hc hr (fun r' c' _ _ => rk_putT M c r r' c'))))⟩
theorem rk_t88 {post : Int32 → St2 → Prop} {J : Int32 → (Nat → Int32) → (Nat → Int32) → (Nat → Int32) → (Nat → Int32) → (Nat → Int32) → (Nat → Int32) → (Nat → Int32) → (Nat → Int32) → (Nat → Int32) → (Nat → Int32) → (Nat → Int32) → Prop}
    {k r c : Nat} {b : Bool} (hn : n ≤ 6) (hr : r < n) (hc : c < n) (hB : rk_Bd n M a1) (H : ∀ a, rk_Bd n (rk_put (rk_put M r c (M c r)) c r b) a → J (nI (k + 1)) a a2 a3 a4 a5 a6 a7 a8 a9 a10 a11) :
    wX_turn_88 post J (nI k) (nI r) (nI c) (if b then 1 else 0) (nI n) t a1 a2 a3 a4 a5 a6 a7 a8 a9 a10 a11 := by
  obtain ⟨m, hm, e, hb⟩ := hB c hc
  have h64 := rk_p64 hn
  unfold wX_turn_88
  rw [nI_clamp (show c < 2 ^ 31 by omega), e]
  refine ⟨pk_in c 6 (by omega), ek_if (rk_b1 m (by omega) r (by omega)) (fun g => ?_) (fun g => ?_)⟩
  · unfold wX_turn_109
    rw [nI_clamp (show r < 2 ^ 31 by omega), rk_shl c (by omega)]
    refine br_f (by decide) ⟨pk_in r 6 (by omega), rk_t146 (M := rk_put M r c true) hn hr hc (rk_BdSet hn hB hr hc (fun r' c' _ _ => rk_putT M r c r' c')) ?_⟩
    rw [← hb r (by omega), g] at H
    exact H
  · unfold wX_turn_109
    rw [nI_clamp (show r < 2 ^ 31 by omega), rk_shl c (by omega)]
    refine br_t rfl ⟨pk_in r 6 (by omega), rk_t146 (M := rk_put M r c false) hn hr hc (rk_BdClr hn hB hr (by omega) (fun r' c' _ _ => rk_putF M r c r' c')) ?_⟩
    rw [← hb r (by omega), show m.testBit r = false by simpa using g] at H
    exact H
end
end
section
section
variable {t : Int32} {a1 a2 a3 a4 a5 a6 a7 a8 a9 a10 a11 : Nat → Int32} {n : Nat} {M M' : Nat → Nat → Bool} {V V' : Nat → Nat → Int32}
/-- cells that are exchanged when places below k are done -/
def rk_tn (n k r c : Nat) : Prop := r < n ∧ c < n ∧ 6 * min r c + max r c < k
def rk_tM (n : Nat) (M : Nat → Nat → Bool) (k r c : Nat) : Bool := if r < n ∧ c < n ∧ 6 * min r c + max r c < k then M c r else M r c
def rk_tV (V : Nat → Nat → Int32) (k r c : Nat) : Int32 := if 6 * min r c + max r c < k then V c r else V r c
theorem rk_turn {post : Int32 → St2 → Prop} {u : St2} (h : rk_Ok n M V u) (hM : ∀ r c, r < n → c < 6 → M' r c = (decide (c < n) && M c r)) (hV : ∀ r c, r < n → c < n → V' r c = V c r)
    (H : ∀ u', rk_Ok n M' V' u' → post 0 u') : wpX_turn post u := by
  obtain ⟨f, t, a1, a2, a3, a4, a5, a6, a7, a8, a9, a10, a11⟩ := u
  obtain ⟨⟨h1, hn⟩, rfl, hB, h2, h3⟩ := h
  have h64 := rk_p64 hn
  have hout : ∀ r c, r < n → n ≤ c → c < 6 → M r c = false := by
    intro r c hr h1 h2
    obtain ⟨m, hm, _, hbit⟩ := hB r hr
    rw [← hbit c h2]
    exact Nat.testBit_lt_two_pow (Nat.lt_of_lt_of_le hm (Nat.pow_le_pow_right (by omega) h1))
  refine pk_loop (σ := (Nat → Int32) × (Nat → Int32)) (fun fu i s => wX_turn_2 post (nI n) t fu (nI i) s.1 s.2 a3 a4 a5 a6 a7 a8 a9 a10 a11)
    (fun i s => rk_Bd n (rk_tM n M i) s.1 ∧ ∀ r c, r < n → c < n → s.2 (6 * r + c) = rk_tV V i r c) 36 0 (a1, a2) (by omega) ⟨rk_BdC hB (fun r c _ _ => by unfold rk_tM; rw [if_neg (by omega)]), fun r c hr hc => by unfold rk_tV; rw [if_neg (by omega)]; exact h2 r c hr hc⟩ ?_ ?_
  · intro fu s hs
    obtain ⟨b1, b2⟩ := s
    obtain ⟨k1, k2⟩ := hs
    dsimp only at k1 k2 ⊢
    refine pk_le 36 36 (fun _ => H _ ⟨⟨h1, hn⟩, rfl, rk_BdC k1 (fun r c hr hc => ?_), fun r c hr hc => ?_, h3⟩) (fun z => absurd z (by omega))
    · unfold rk_tM
      rw [hM r c hr hc]
      by_cases g : c < n
      · rw [if_pos ⟨hr, g, by omega⟩]
        simp [g]
      · rw [if_neg (fun z => g z.2.1), hout r c hr (by omega) hc]
        simp [g]
    · rw [k2 r c hr hc, hV r c hr hc]
      unfold rk_tV
      rw [if_pos (by omega)]
  · intro fu i s hi hs hw
    obtain ⟨b1, b2⟩ := s
    obtain ⟨k1, k2⟩ := hs
    dsimp only at k1 k2 hw ⊢
    have e1 : nI i / 6 = nI (i / 6) := pk_div (d := 6) (by omega) (by omega) (by omega)
    have e2 : nI i - nI i / 6 * 6 = nI (i % 6) := pk_rem (d := 6) (by omega) (by omega) (by omega)
    have skip : ¬ (i / 6 < i % 6 ∧ i % 6 < n) → wX_turn_2 post (nI n) t fu (nI (i + 1)) b1 b2 a3 a4 a5 a6 a7 a8 a9 a10 a11 := by
      intro g
      refine hw (b1, b2) ⟨rk_BdC k1 (fun r c hr hc => ?_), fun r c hr hc => ?_⟩
      · unfold rk_tM
        by_cases q : r < n ∧ c < n ∧ 6 * min r c + max r c < i
        · rw [if_pos q, if_pos ⟨q.1, q.2.1, by omega⟩]
        · rw [if_neg q]
          by_cases q2 : r < n ∧ c < n ∧ 6 * min r c + max r c < i + 1
          · rw [if_pos q2, show r = c by omega]
          · rw [if_neg q2]
      · show b2 (6 * r + c) = rk_tV V (i + 1) r c
        rw [k2 r c hr hc]
        unfold rk_tV
        by_cases q : 6 * min r c + max r c < i
        · rw [if_pos q, if_pos (by omega)]
        · rw [if_neg q]
          by_cases q2 : 6 * min r c + max r c < i + 1
          · rw [if_pos q2, show r = c by omega]
          · rw [if_neg q2]
    refine pk_le 36 i (fun z => absurd z (by omega)) (fun _ => ⟨by decide, nm_r e1 ⟨by decide, nm_r e2 ?_⟩⟩)
    refine pk_le (i % 6) (i / 6) (fun g => nm_r (nI_1 i) (skip (by omega))) (fun g => pk_le n (i % 6) (fun g2 => nm_r (nI_1 i) (skip (by omega))) (fun g2 => ?_))
    rw [rk_6, nI_clamp (show i < 2 ^ 31 by omega), nI_clamp (show 6 * (i % 6) + i / 6 < 2 ^ 31 by omega), nI_clamp (show i / 6 < 2 ^ 31 by omega)]
    refine ⟨pk_in i 36 hi, nm_e ⟨pk_in (6 * (i % 6) + i / 6) 36 (by omega), pk_in i 36 hi, nm_e ⟨pk_in (6 * (i % 6) + i / 6) 36 (by omega), nm_e ⟨pk_in (i / 6) 6 (by omega), ?_⟩⟩⟩⟩
    obtain ⟨m, hm, e, hb⟩ := k1 (i / 6) (by omega)
    have key : ∀ b : Bool, b = m.testBit (i % 6) → wX_turn_88 post (wX_turn_2 post (nI n) t fu) (nI i) (nI (i / 6)) (nI (i % 6)) (if b then 1 else 0) (nI n) t b1 (upd (upd b2 i (b2 (6 * (i % 6) + i / 6))) (6 * (i % 6) + i / 6) (b2 i)) a3 a4 a5 a6 a7 a8 a9 a10 a11 := by
      intro b hbb
      refine rk_t88 hn (by omega) g2 k1 (fun a ha => hw (a, _) ⟨rk_BdC ha (fun r c hr hc => ?_), fun r c hr hc => ?_⟩)
      · unfold rk_put
        rw [hbb, hb _ (by omega)]
        unfold rk_tM
        by_cases q1 : r = i % 6 ∧ c = i / 6
        · rw [if_pos q1, if_neg (by omega), if_pos (by omega)]
          rw [q1.1, q1.2]
        · rw [if_neg q1]
          by_cases q2 : r = i / 6 ∧ c = i % 6
          · rw [if_pos q2, if_neg (by omega), if_pos (by omega)]
            rw [q2.1, q2.2]
          · rw [if_neg q2]
            by_cases q : r < n ∧ c < n ∧ 6 * min r c + max r c < i
            · rw [if_pos q, if_pos ⟨q.1, q.2.1, by omega⟩]
            · rw [if_neg q, if_neg (by omega)]
      · show upd (upd b2 i (b2 (6 * (i % 6) + i / 6))) (6 * (i % 6) + i / 6) (b2 i) (6 * r + c) = rk_tV V (i + 1) r c
        by_cases q1 : r = i % 6 ∧ c = i / 6
        · obtain ⟨rfl, rfl⟩ := q1
          have := k2 (i / 6) (i % 6) (by omega) (by omega)
          rw [show 6 * (i / 6) + i % 6 = i by omega] at this
          rw [pk_us, this]
          unfold rk_tV
          rw [if_neg (by omega), if_pos (by omega)]
        · rw [pk_un (by omega)]
          by_cases q2 : r = i / 6 ∧ c = i % 6
          · obtain ⟨rfl, rfl⟩ := q2
            rw [show 6 * (i / 6) + i % 6 = i by omega, pk_us, k2 (i % 6) (i / 6) (by omega) (by omega)]
            unfold rk_tV
            rw [if_neg (by omega), if_pos (by omega)]
          · rw [pk_un (by omega), k2 r c hr hc]
            unfold rk_tV
            by_cases q : 6 * min r c + max r c < i
            · rw [if_pos q, if_pos (by omega)]
            · rw [if_neg q, if_neg (by omega)]
    rw [e]
    refine ek_if (rk_b1 m (by omega) (i % 6) (by omega)) (fun g3 => key true g3.symm) (fun g3 => key false ?_)
    cases hx : m.testBit (i % 6) with
    | false => rfl
    | true => exact absurd hx g3
end
end
section
theorem rk_Cz : ∀ i j, i < j → rk_C i j = 0 := by
  intro i
  induction i with
  | zero =>
    intro j hj
    cases j with
    | zero => omega
    | succ j => rfl
  | succ i ih =>
    intro j hj
    cases j with
    | zero => omega
    | succ j => rw [rk_C, ih j (by omega), ih (j + 1) (by omega)]
theorem rk_product {post : Int32 → Prop} {n : Nat} (hn : n < 100) (H : post (nI (rk_F n))) : wpL_product post () (nI n) := by
  have : ∃ fu, wL_product_4 post (nI n) fu 1 (nI 2) := by
    refine pk_loop (fun fu i s => wL_product_4 post (nI n) fu s (nI i)) (fun i s => 2 ≤ i ∧ s = nI (rk_F (i - 1))) (max 2 (n + 1)) 2 1 (by omega) ⟨by omega, rfl⟩ ?_ ?_
    · intro fu s hs
      refine pk_lt n (max 2 (n + 1)) (fun _ => ?_) (fun z => absurd z (by omega))
      rw [hs.2]
      by_cases e : n = 0
      · subst e
        exact H
      · rw [show max 2 (n + 1) - 1 = n by omega]
        exact H
    · intro fu i s hi hs hw
      refine pk_lt n i (fun z => absurd z (by omega)) (fun _ => nm_e (nm_r (nI_1 i) (hw _ ⟨by omega, ?_⟩)))
      have e : i = (i - 1) + 1 := by omega
      rw [hs.2, pk_mul]
      show _ = nI (rk_F i)
      conv => rhs; rw [e, rk_F]
      rw [← e]
  exact this
section
variable {t : Int32} {a1 a2 a3 a4 a5 a6 a7 a8 a9 a10 a11 : Nat → Int32} {n : Nat}
theorem rk_in197 {post : St2 → Prop} {mc ms kc ks : Nat} {J : Int32 → (Nat → Int32) → (Nat → Int32) → (Nat → Int32) → (Nat → Int32) → (Nat → Int32) → (Nat → Int32) → (Nat → Int32) → (Nat → Int32) → (Nat → Int32) → (Nat → Int32) → (Nat → Int32) → Prop}
    {i : Nat} (hi : i < 7) (h1 : ∀ a b, a < i → b < 7 → a8 (7 * a + b) = nI (rk_C a b)) (h2 : a8 (7 * i) = 1) (h3 : ∀ j, 7 * i + 1 ≤ j → a8 j = 0)
    (H : ∀ s, (∀ a b, a < i + 1 → b < 7 → s (7 * a + b) = nI (rk_C a b)) → (∀ j, 7 * (i + 1) ≤ j → s j = 0) → J (nI (i + 1)) a1 a2 a3 a4 a5 a6 a7 s a9 a10 a11) :
    ∃ fu, wX_init_197 post mc ms J (nI i) kc ks (nI n) t fu (nI 1) a1 a2 a3 a4 a5 a6 a7 a8 a9 a10 a11 := by
  refine pk_loop (fun fu j s => wX_init_197 post mc ms J (nI i) kc ks (nI n) t fu (nI j) a1 a2 a3 a4 a5 a6 a7 s a9 a10 a11)
    (fun j s => 1 ≤ j ∧ (∀ a b, a < i → b < 7 → s (7 * a + b) = nI (rk_C a b)) ∧ (∀ b, b < j → s (7 * i + b) = nI (rk_C i b)) ∧ (∀ x, 7 * i + j ≤ x → s x = 0)) (i + 1) 1 a8 (by omega)
    ⟨by omega, h1, fun b hb => by rw [show b = 0 by omega, Nat.add_zero, h2]; cases i <;> rfl, h3⟩ ?_ ?_
  · intro fu s hs
    obtain ⟨_, k1, k2, k3⟩ := hs
    refine pk_lt i (i + 1) (fun _ => nm_r (nI_1 i) (H s (fun a b ha hb => ?_) (fun j hj => k3 j (by omega)))) (fun z => absurd z (by omega))
    by_cases e : a = i
    · subst e
      by_cases g : b < a + 1
      · exact k2 b g
      · rw [k3 _ (by omega), rk_Cz a b (by omega)]
        rfl
    · exact k1 a b (by omega) hb
  · intro fu j s hj hs hw
    obtain ⟨k0, k1, k2, k3⟩ := hs
    obtain ⟨i', rfl⟩ : ∃ i', i = i' + 1 := ⟨i - 1, by omega⟩
    obtain ⟨j', rfl⟩ : ∃ j', j = j' + 1 := ⟨j - 1, by omega⟩
    refine pk_lt (i' + 1) (j' + 1) (fun z => absurd z (by omega)) (fun _ => ?_)
    rw [nI_pred i', rk_7, rk_7, show 7 * i' + (j' + 1) = 7 * i' + j' + 1 by omega, nI_pred (7 * i' + j')]
    refine ⟨pk_in (7 * i' + j') 49 (by omega), pk_in (7 * i' + j' + 1) 49 (by omega), pk_in (7 * (i' + 1) + (j' + 1)) 49 (by omega), nm_e (nm_r (nI_1 (j' + 1)) (hw _ ?_))⟩
    rw [nI_clamp (show 7 * i' + j' < 2 ^ 31 by omega), nI_clamp (show 7 * i' + j' + 1 < 2 ^ 31 by omega), nI_clamp (show 7 * (i' + 1) + (j' + 1) < 2 ^ 31 by omega)]
    refine ⟨by omega, fun a b ha hb => ?_, fun b hb => ?_, fun x hx => ?_⟩
    · rw [pk_un (by omega)]
      exact k1 a b ha hb
    · by_cases e : b = j' + 1
      · subst e
        rw [pk_us, rk_C, ← nI_add, k1 i' j' (by omega) (by omega), show 7 * i' + j' + 1 = 7 * i' + (j' + 1) by omega, k1 i' (j' + 1) (by omega) (by omega)]
      · rw [pk_un (by omega)]
        exact k2 b (by omega)
    · rw [pk_un (by omega)]
      exact k3 x (by omega)
theorem rk_in179 {post : St2 → Prop} {mc ms kc ks : Nat} (h8 : ∀ j, a8 j = 0) (H : ∀ s, (∀ a b, a < 7 → b < 7 → s (7 * a + b) = nI (rk_C a b)) → post (nI n, t, a1, a2, a3, a4, a5, a6, a7, s, a9, a10, a11)) : ∃ fu, wX_init_179 post mc ms kc ks (nI n) t fu 0 a1 a2 a3 a4 a5 a6 a7 a8 a9 a10 a11 := by
  refine pk_loop (fun fu i s => wX_init_179 post mc ms kc ks (nI n) t fu (nI i) a1 a2 a3 a4 a5 a6 a7 s a9 a10 a11) (fun i s => (∀ a b, a < i → b < 7 → s (7 * a + b) = nI (rk_C a b)) ∧ (∀ j, 7 * i ≤ j → s j = 0)) 7 0 a8 (by omega) ⟨fun a b ha => absurd ha (by omega), fun j _ => h8 j⟩
    (fun fu s hs => pk_le 7 7 (fun _ => H s hs.1) (fun z => absurd z (by omega))) ?_
  intro fu i s hi hs hw
  have e7 : (7 : Int32) * nI i = nI (7 * i) := pk_mul 7 i
  refine pk_le 7 i (fun z => absurd z (by omega)) (fun _ => ⟨pk_in (7 * i) 49 (by omega) (hx := e7), nm_r (show _ = upd s (7 * i) 1 by rw [e7, nI_clamp (by omega)]) ?_⟩)
  exact rk_in197 hi (fun a b ha hb => by rw [pk_un (by omega)]; exact hs.1 a b ha hb) pk_us (fun j hj => by rw [pk_un (by omega)]; exact hs.2 j (by omega)) (fun s' g1 g2 => hw s' ⟨g1, g2⟩)
theorem rk_in149 {post : St2 → Prop} {mc ms kc ks : Nat} (h7 : a7 0 = 1) (h8 : ∀ j, a8 j = 0) (H : ∀ q s, (∀ i, i < 7 → q i = nI (rk_F i)) → (∀ a b, a < 7 → b < 7 → s (7 * a + b) = nI (rk_C a b)) → post (nI n, t, a1, a2, a3, a4, a5, a6, q, s, a9, a10, a11)) : ∃ fu, wX_init_149 post mc ms kc ks (nI n) t fu (nI 1) a1 a2 a3 a4 a5 a6 a7 a8 a9 a10 a11 := by
  refine pk_loop (fun fu i s => wX_init_149 post mc ms kc ks (nI n) t fu (nI i) a1 a2 a3 a4 a5 a6 s a8 a9 a10 a11) (fun i s => 1 ≤ i ∧ ∀ j, j < i → s j = nI (rk_F j)) 7 1 a7 (by omega) ⟨by omega, fun j hj => by rw [show j = 0 by omega, h7]; rfl⟩
    (fun fu s hs => pk_le 7 7 (fun _ => rk_in179 h8 (fun q hq => H s q hs.2 hq)) (fun z => absurd z (by omega))) ?_
  intro fu i s hi hs hw
  obtain ⟨i', rfl⟩ : ∃ i', i = i' + 1 := ⟨i - 1, by have := hs.1; omega⟩
  refine pk_le 7 (i' + 1) (fun z => absurd z (by omega)) (fun _ => ?_)
  rw [nI_pred]
  refine ⟨pk_in i' 7 (by omega), pk_in (i' + 1) 7 (by omega), nm_e (nm_r (nI_1 (i' + 1)) (hw _ ⟨by omega, rk_fill (f := fun j => nI (rk_F j)) (nI_clamp (by omega)) hs.2 ?_⟩))⟩
  rw [nI_clamp (by omega), hs.2 i' (by omega), pk_mul]
  rfl
theorem rk_in121 {post : St2 → Prop} {mc ms kc ks : Nat} (hn : 1 ≤ n ∧ n ≤ 6) (H : ∀ u, rk_Ok n (fun _ _ => false) (fun _ _ => 1) u → post u) : ∃ fu, wX_init_121 post mc ms kc ks (nI n) t fu 0 (fun _ => 0) (fun _ => 0) (fun _ => 0) (fun _ => 0) (fun _ => 0) (fun _ => 0) (fun _ => 0) (fun _ => 0) (fun _ => 0) (fun _ => 0) (fun _ => 0) := by
  refine pk_loop (fun fu i s => wX_init_121 post mc ms kc ks (nI n) t fu (nI i) (fun _ => 0) s (fun _ => 0) (fun _ => 0) (fun _ => 0) (fun _ => 0) (fun _ => 0) (fun _ => 0) (fun _ => 0) (fun _ => 0) (fun _ => 0)) (fun i s => ∀ j, j < i → s j = 1) 36 0 (fun _ => 0) (by omega) (fun j hj => absurd hj (by omega))
    (fun fu s hs => pk_le 36 36 (fun _ => nm_e (rk_in149 pk_us (fun _ => rfl) (fun q7 q8 h7 h8 => H _ ⟨hn, rfl, ?_, fun r c hr hc => hs _ (by omega), h7, h8⟩))) (fun z => absurd z (by omega)))
    (fun fu i s hi hs hw => pk_le 36 i (fun z => absurd z (by omega)) (fun _ => ⟨pk_in i 36 hi, nm_e (nm_r (nI_1 i) (hw _ (rk_fill (f := fun _ => 1) (nI_clamp (by omega)) hs rfl)))⟩))
  intro r _
  exact ⟨0, Nat.two_pow_pos n, rfl, fun c _ => Nat.zero_testBit c⟩
end
end
section
/-! the boards that the law meets, and what stands on them: plain numbers -/
def rk_E : Nat → Nat → Bool := fun _ _ => false
def rk_O (p q : Nat) : Nat → Nat → Bool := fun r c => r == p && c == q
def rk_Fu (n : Nat) : Nat → Nat → Bool := fun _ c => decide (c < n)
def rk_X (n p q : Nat) : Nat → Nat → Bool := fun r c => decide (c < n) && !(r == p && c == q)
def rk_Wp (M : Nat → Nat → Bool) : Nat → Nat → Nat → Nat → Nat
  | 0 => fun _ k _ => if k = 0 then 1 else 0
  | d + 1 => fun r k s => if k = 0 then 1 else if d + 1 < k then 0 else rk_Wp M d (r + 1) k s + rk_S6 (fun c => if M r c && !(s.testBit c) then rk_Wp M d (r + 1) (k - 1) (s ||| 2 ^ c) else 0)
theorem rk_Wz (M : Nat → Nat → Bool) : ∀ d r k s, d < k → rk_W M d r k s = 0 := by
  intro d
  induction d with
  | zero =>
    intro r k s h
    exact if_neg (by omega)
  | succ d ih =>
    intro r k s h
    obtain ⟨k', rfl⟩ : ∃ k', k = k' + 1 := ⟨k - 1, by omega⟩
    rw [rk_Ws, ih _ _ _ (by omega), rk_S6c (g := fun _ => 0) (fun c _ => by rw [ih _ _ _ (by omega)]; exact ite_self _)]
    rfl
theorem rk_WWp (M : Nat → Nat → Bool) : ∀ d r k s, rk_W M d r k s = rk_Wp M d r k s := by
  intro d
  induction d with
  | zero => exact fun _ _ _ => rfl
  | succ d ih =>
    intro r k s
    by_cases h : d + 1 < k
    · rw [rk_Wz M _ _ _ _ h, rk_Wp]
      dsimp only
      rw [if_neg (by omega), if_pos h]
    · rw [rk_W, rk_Wp]
      dsimp only
      rw [if_neg h, ih]
      by_cases h0 : k = 0
      · rw [if_pos h0, if_pos h0]
      · rw [if_neg h0, if_neg h0, rk_S6c (fun c _ => by rw [ih])]
theorem rk_WE : ∀ n, n < 7 → ∀ k, k < 7 → rk_W rk_E n 0 k 0 = if k = 0 then 1 else 0 := by decide +kernel
theorem rk_WO : ∀ n, n < 7 → ∀ p, p < n → ∀ q, q < n → ∀ k, k < 7 → rk_W (rk_O p q) n 0 k 0 = if k < 2 then 1 else 0 := by decide +kernel
theorem rk_WFp : ∀ n, n < 7 → rk_Wp (rk_Fu n) n 0 n 0 = rk_F n ∧ rk_Wp (rk_Fu n) (n - 1) 1 (n - 1) 1 = rk_F (n - 1) := by decide +kernel
theorem rk_WXp : ∀ n, n < 7 → ∀ p, p < n → ∀ q, q < n → rk_Wp (rk_X n p q) n 0 n 0 = rk_F n - rk_F (n - 1) := by decide +kernel
theorem rk_WX1 : ∀ n, n < 7 → ∀ p, p < n → ∀ q, q < n → rk_W (rk_X n p q) n 0 1 0 = n * n - 1 := by decide +kernel
theorem rk_clE : ∀ n, n < 7 → rk_cl rk_E n = 0 := by decide +kernel
theorem rk_clO : ∀ n, n < 7 → ∀ p, p < n → ∀ q, q < n → rk_cl (rk_O p q) n = 1 := by decide +kernel
theorem rk_clF : ∀ n, n < 7 → rk_cl (rk_Fu n) n = n * n := by decide +kernel
theorem rk_clX : ∀ n, n < 7 → ∀ p, p < n → ∀ q, q < n → rk_cl (rk_X n p q) n = n * n - 1 := by decide +kernel
theorem rk_Fpos : ∀ n, n < 7 → 0 < rk_F n ∧ rk_F n < 2 ^ 31 := by decide +kernel
theorem rk_Hc {n k : Nat} {R R' : Nat → Nat} : ∀ m, (∀ j, j < k + m → R j = R' j) → rk_H n R k m = rk_H n R' k m := by
  intro m
  induction m with
  | zero => exact fun _ => rfl
  | succ m ih =>
    intro h
    rw [rk_H, rk_H, ih (fun j hj => h j (by omega)), h (k + m) (by omega)]
theorem rk_HE0 : ∀ n, n < 7 → ∀ k, k < n + 1 → rk_H n (fun j => if j = 0 then 1 else 0) k (n + 1 - k) = if k = 0 then nI (rk_F n) else 0 := by decide +kernel
theorem rk_HO0 : ∀ n, n < 7 → 0 < n → ∀ k, k < n + 1 → rk_H n (fun j => if j < 2 then 1 else 0) k (n + 1 - k) = if k = 0 then nI (rk_F n) - nI (rk_F (n - 1)) else if k = 1 then nI (rk_F (n - 1)) else 0 := by decide +kernel
theorem rk_HX0 : ∀ n, n < 7 → 0 < n → rk_H n (fun _ => rk_F n - rk_F (n - 1)) n 1 = nI (rk_F n) - nI (rk_F (n - 1)) := by decide +kernel
theorem rk_HE {n k : Nat} (hn : n < 7) (hk : k ≤ n) : rk_H n (fun j => rk_W rk_E n 0 j 0) k (n + 1 - k) = if k = 0 then nI (rk_F n) else 0 := by
  rw [← rk_HE0 n hn k (by omega)]
  exact rk_Hc _ (fun j hj => rk_WE n hn j (by omega))
theorem rk_HO {n k p q : Nat} (hn : n < 7) (hp : p < n) (hq : q < n) (hk : k ≤ n) : rk_H n (fun j => rk_W (rk_O p q) n 0 j 0) k (n + 1 - k) = if k = 0 then nI (rk_F n) - nI (rk_F (n - 1)) else if k = 1 then nI (rk_F (n - 1)) else 0 := by
  rw [← rk_HO0 n hn (by omega) k (by omega)]
  exact rk_Hc _ (fun j hj => rk_WO n hn p hp q hq j (by omega))
theorem rk_HX {n p q : Nat} (hn : n < 7) (hp : p < n) (hq : q < n) : rk_H n (fun j => rk_W (rk_X n p q) n 0 j 0) n (n + 1 - n) = nI (rk_F n) - nI (rk_F (n - 1)) := by
  rw [← rk_HX0 n hn (by omega), show n + 1 - n = 1 by omega]
  rw [rk_H, rk_H, rk_H, rk_H]
  rw [Nat.add_zero, rk_WWp, rk_WXp n hn p hp q hq]
/-- sums of weights -/
def rk_cN (M : Nat → Nat → Bool) (c : Nat) : Nat → Nat
  | 0 => 0
  | r + 1 => rk_cN M c r + if M r c then 1 else 0
theorem rk_csN {M : Nat → Nat → Bool} {V : Nat → Nat → Int32} {c : Nat} : ∀ m, (∀ r, r < m → M r c = true → V r c = 1) → rk_cs M V c m = nI (rk_cN M c m) := by
  intro m
  induction m with
  | zero => exact fun _ => rfl
  | succ m ih =>
    intro h
    rw [rk_cs, rk_cN, ih (fun r hr => h r (by omega)), ← nI_add]
    by_cases g : M m c = true
    · rw [if_pos g, if_pos g, h m (by omega) g]
      rfl
    · rw [if_neg g, if_neg g]
      rfl
theorem rk_cNX : ∀ n, n < 7 → ∀ p, p < n → ∀ q, q < n → 0 + rk_cN (rk_X n p q) 0 n + rk_cN (rk_X n p q) 1 n + rk_cN (rk_X n p q) 2 n + rk_cN (rk_X n p q) 3 n + rk_cN (rk_X n p q) 4 n + rk_cN (rk_X n p q) 5 n = n * n - 1 := by decide +kernel
theorem rk_sX {n p q : Nat} {V : Nat → Nat → Int32} (hn : n < 7) (hp : p < n) (hq : q < n) (hV : ∀ r c, r < n → c < n → ¬ (r = p ∧ c = q) → V r c = 1) :
    0 + rk_cs (rk_X n p q) V 0 n + rk_cs (rk_X n p q) V 1 n + rk_cs (rk_X n p q) V 2 n + rk_cs (rk_X n p q) V 3 n + rk_cs (rk_X n p q) V 4 n + rk_cs (rk_X n p q) V 5 n = nI (n * n - 1) := by
  have key : ∀ c, rk_cs (rk_X n p q) V c n = nI (rk_cN (rk_X n p q) c n) := by
    intro c
    refine rk_csN n (fun r hr h => ?_)
    unfold rk_X at h
    simp only [Bool.and_eq_true, decide_eq_true_eq, Bool.not_eq_true', Bool.and_eq_false_iff, beq_eq_false_iff_ne] at h
    exact hV r c hr h.1 (by omega)
  rw [key, key, key, key, key, key, ← rk_cNX n hn p hp q hq, ← nI_0, nI_add, nI_add, nI_add, nI_add, nI_add, nI_add]
theorem rk_csO {p q c : Nat} {V : Nat → Nat → Int32} : ∀ m, rk_cs (rk_O p q) V c m = if p < m ∧ c = q then V p q else 0 := by
  intro m
  induction m with
  | zero => exact (if_neg (by omega)).symm
  | succ m ih =>
    rw [rk_cs, ih]
    by_cases g : m = p ∧ c = q
    · obtain ⟨rfl, rfl⟩ := g
      rw [if_neg (by omega), if_pos (by simp [rk_O]), if_pos (by omega), Int32.zero_add]
    · have : ¬ rk_O p q m c = true := by
        simp only [rk_O, Bool.and_eq_true, beq_iff_eq]
        exact g
      rw [if_neg this, Int32.add_zero]
      by_cases g2 : p < m ∧ c = q
      · rw [if_pos g2, if_pos ⟨by omega, g2.2⟩]
      · rw [if_neg g2, if_neg (by omega)]
theorem rk_sO {n p q : Nat} {V : Nat → Nat → Int32} (hn : n < 7) (hp : p < n) (hq : q < n) :
    0 + rk_cs (rk_O p q) V 0 n + rk_cs (rk_O p q) V 1 n + rk_cs (rk_O p q) V 2 n + rk_cs (rk_O p q) V 3 n + rk_cs (rk_O p q) V 4 n + rk_cs (rk_O p q) V 5 n = V p q := by
  have h : q = 0 ∨ q = 1 ∨ q = 2 ∨ q = 3 ∨ q = 4 ∨ q = 5 := by omega
  rw [rk_csO, rk_csO, rk_csO, rk_csO, rk_csO, rk_csO]
  rcases h with rfl | rfl | rfl | rfl | rfl | rfl <;> simp [hp]
theorem rk_nn : ∀ n, n < 7 → 0 < n → nI n * nI n = nI (n * n) ∧ nI n * nI n - 1 = nI (n * n - 1) := by decide +kernel
theorem rk_swi (i j r p : Nat) : (rk_sw i j r = p) ↔ (r = rk_sw i j p) := by
  unfold rk_sw
  repeat' split
  all_goals omega
end
section
/-! the law behind the board with one cell -/
theorem rk_OE {p q r c : Nat} : rk_E r c = (rk_O p q r c && !(r == p && c == q)) := by
  unfold rk_E rk_O
  cases (r == p && c == q) <;> rfl
theorem rk_EO {p q r c : Nat} : rk_O p q r c = (rk_E r c || (r == p && c == q)) := by
  unfold rk_E rk_O
  cases (r == p && c == q) <;> rfl
theorem rk_OO {p q r c : Nat} : rk_O p q r c = (rk_O p q r c || (r == p && c == q)) := by
  unfold rk_O
  cases (r == p && c == q) <;> rfl
theorem rk_XX {n p q r c : Nat} : rk_X n p q r c = (rk_X n p q r c && !(r == p && c == q)) := by
  unfold rk_X
  cases (r == p && c == q) <;> cases decide (c < n) <;> rfl
theorem rk_OX {n p q r c : Nat} : rk_X n p q r c = (decide (c < n) && !(rk_O p q r c)) := rfl
theorem rk_XO {n p q r c : Nat} (hq : q < n) : rk_O p q r c = (decide (c < n) && !(rk_X n p q r c)) := by
  unfold rk_X rk_O
  by_cases g : r = p ∧ c = q
  · obtain ⟨rfl, rfl⟩ := g
    simp [hq]
  · have : (r == p && c == q) = false := by
      simp only [Bool.and_eq_false_iff, beq_eq_false_iff_ne]
      omega
    rw [this]
    cases decide (c < n) <;> rfl
theorem rk_OT {n p q r c : Nat} (hp : p < n) : rk_O q p r c = (decide (c < n) && rk_O p q c r) := by
  unfold rk_O
  by_cases g : c = p
  · subst g
    simp [hp]
  · have : (c == p) = false := beq_eq_false_iff_ne.mpr g
    rw [this]
    cases (r == q) <;> cases decide (c < n) <;> rfl
theorem rk_Opq (p q : Nat) : rk_O p q p q = true := by simp [rk_O]
theorem rk_Xpq (n p q : Nat) : rk_X n p q p q = false := by simp [rk_X]
section
variable {f : Int32} {t : Int32} {a1 a2 a3 a4 a5 a6 a7 a8 a9 a10 a11 : Nat → Int32} {n p q m : Nat} {V : Nat → Nat → Int32} {post : Int32 → St0 → Prop} {mc ms kc ks : Nat} {w : Int32}
theorem rk_end (h1 : post 1 ()) (h : rk_Ok n (rk_O p q) V (f, t, a1, a2, a3, a4, a5, a6, a7, a8, a9, a10, a11)) (hp : p < n) (hq : q < n) (hw : V p q = w) (hV : ∀ r c, r < n → c < n → ¬ (r = p ∧ c = q) → V r c = 1) :
    wL_lawOf_719 post mc ms w (nI n) (nI (rk_F n)) (nI (rk_F (n - 1))) (nI q) (nI p) (nI (6 * p + q)) kc ks (m + 1) (nI n) f t a1 a2 a3 a4 a5 a6 a7 a8 a9 a10 a11 := by
  have hn : n < 7 := by have := h.1.2; omega
  have hn1 : 1 ≤ n := h.1.1
  refine pk_le n n (fun _ => ?_) (fun z => absurd z (by omega))
  rw [rk_6, (rk_nn n hn hn1).2]
  refine rk_turn (M' := rk_O q p) (V' := fun r c => V c r) h (fun _ _ _ _ => rk_OT hp) (fun _ _ _ _ => rfl) (fun ⟨f, t, a1, a2, a3, a4, a5, a6, a7, a8, a9, a10, a11⟩ h => br_t rfl ?_)
  refine rk_set (r := q) (c := p) (M' := rk_E) h hq hp (fun _ _ _ _ _ => rk_OE) (fun z => absurd rfl z) (fun ⟨f, t, a1, a2, a3, a4, a5, a6, a7, a8, a9, a10, a11⟩ h => br_t (by rw [rk_Opq]; rfl) ?_)
  refine rk_cells h (br_t (by rw [rk_clE n hn]; rfl) ?_)
  refine rk_set (r := q) (c := p) (M' := rk_O q p) h hq hp (fun z => absurd z (by decide)) (fun _ _ _ _ _ => rk_EO) (fun ⟨f, t, a1, a2, a3, a4, a5, a6, a7, a8, a9, a10, a11⟩ h => br_t rfl ?_)
  refine rk_sum1 h (fun ⟨f, t, a1, a2, a3, a4, a5, a6, a7, a8, a9, a10, a11⟩ h => br_t ((rk_sO hn hq hp).trans hw) ?_)
  refine rk_turn (M' := rk_O p q) (V' := V) h (fun _ _ _ _ => rk_OT hq) (fun _ _ _ _ => rfl) (fun ⟨f, t, a1, a2, a3, a4, a5, a6, a7, a8, a9, a10, a11⟩ h => br_t rfl ?_)
  refine rk_set (r := p) (c := q) (M' := rk_O p q) h hp hq (fun z => absurd z (by decide)) (fun _ _ _ _ _ => rk_OO) (fun ⟨f, t, a1, a2, a3, a4, a5, a6, a7, a8, a9, a10, a11⟩ h => br_t (by rw [rk_Opq]; rfl) ?_)
  refine rk_complement (M' := rk_X n p q) h (fun _ _ _ _ => rk_OX) (fun ⟨f, t, a1, a2, a3, a4, a5, a6, a7, a8, a9, a10, a11⟩ h => br_t (by rw [rk_clX n hn p hp q hq]) ?_)
  refine rk_hits (k := n) h (Nat.le_refl n) (fun ⟨f, t, a1, a2, a3, a4, a5, a6, a7, a8, a9, a10, a11⟩ h => br_t (rk_HX hn hp hq) ?_)
  refine rk_rooks (k := 1) h hn1 (fun ⟨f, t, a1, a2, a3, a4, a5, a6, a7, a8, a9, a10, a11⟩ h => br_t (by rw [rk_WX1 n hn p hp q hq]) ?_)
  refine rk_set (r := p) (c := q) (M' := rk_X n p q) h hp hq (fun _ _ _ _ _ => rk_XX) (fun z => absurd rfl z) (fun ⟨f, t, a1, a2, a3, a4, a5, a6, a7, a8, a9, a10, a11⟩ h => br_t (by rw [rk_Xpq]; rfl) ?_)
  refine rk_sum1 h (fun ⟨f, t, a1, a2, a3, a4, a5, a6, a7, a8, a9, a10, a11⟩ h => br_t (rk_sX hn hp hq hV) ?_)
  refine rk_complement (M' := rk_O p q) h (fun _ _ _ _ => rk_XO hq) (fun ⟨f, t, a1, a2, a3, a4, a5, a6, a7, a8, a9, a10, a11⟩ h => br_t (by rw [rk_clO n hn p hp q hq]; rfl) ?_)
  refine rk_sum1 h (fun ⟨f, t, a1, a2, a3, a4, a5, a6, a7, a8, a9, a10, a11⟩ h => br_t ((rk_sO hn hp hq).trans hw) ?_)
  refine rk_columnX (k := 1) (r := 0) h hn1 (by omega) (Or.inl (by decide)) (fun ⟨f, t, a1, a2, a3, a4, a5, a6, a7, a8, a9, a10, a11⟩ h => br_t rfl ?_)
  refine rk_columnR (k := 1) h hn1 (Or.inr ⟨nI_pos (by omega), nI_le (Nat.le_refl n) (by omega)⟩) (br_t rfl ?_)
  refine rk_setB h (rk_gcI (i := 36) (by omega) (by omega) (by omega)) (br_t rfl ?_)
  refine rk_setB h (show rk_gc n (6 * nI n) from ?_) (br_t rfl ?_)
  · rw [show (6 : Int32) * nI n = nI (6 * n) from pk_mul 6 n]
    exact rk_gcI (by omega) (by omega) (by omega)
  · exact rk_throughC h (Or.inl (by decide)) (br_t rfl h1)
theorem rk_L749 {J : Int32 → Int32 → Int32 → (Nat → Int32) → (Nat → Int32) → (Nat → Int32) → (Nat → Int32) → (Nat → Int32) → (Nat → Int32) → (Nat → Int32) → (Nat → Int32) → (Nat → Int32) → (Nat → Int32) → (Nat → Int32) → Prop}
    {x8 x9 x11 x16 x17 z0 z1 : Int32} {i : Nat} (h : rk_Ok n (rk_O p q) V (f, t, a1, a2, a3, a4, a5, a6, a7, a8, a9, a10, a11)) (hp : p < n) (hq : q < n) (hi : i < n) (hz : z1 = z0) (H : ∀ u, rk_Ok n (rk_O p q) V u → J (nI (i + 1)) u.1 u.2.1 u.2.2.1 u.2.2.2.1 u.2.2.2.2.1 u.2.2.2.2.2.1 u.2.2.2.2.2.2.1 u.2.2.2.2.2.2.2.1 u.2.2.2.2.2.2.2.2.1 u.2.2.2.2.2.2.2.2.2.1 u.2.2.2.2.2.2.2.2.2.2.1 u.2.2.2.2.2.2.2.2.2.2.2.1 u.2.2.2.2.2.2.2.2.2.2.2.2) :
    wL_lawOf_749 post mc ms J w (nI n) x8 x9 x11 x16 x17 (nI i) z0 z1 kc ks f t a1 a2 a3 a4 a5 a6 a7 a8 a9 a10 a11 := by
  have hn : n < 7 := by have := h.1.2; omega
  have hn1 : 1 ≤ n := h.1.1
  refine br_t hz (rk_column0 h hi (fun ⟨f, t, a1, a2, a3, a4, a5, a6, a7, a8, a9, a10, a11⟩ h => br_t rfl ?_))
  refine rk_columnX (k := 1) (y := 1) h hn1 hi (Or.inr ⟨by decide, by rw [rk_WO n hn p hp q hq 1 (by omega)]; decide⟩) (fun ⟨f, t, a1, a2, a3, a4, a5, a6, a7, a8, a9, a10, a11⟩ h => br_t rfl ?_)
  refine rk_columnN h (show rk_gn n (nI n + 1) from ?_) (br_t rfl (nm_r (nI_1 i) (H _ h)))
  rw [nI_1]
  exact Or.inr ⟨nI_pos (by omega), nI_lt (by omega) (by omega)⟩
theorem rk_L719 (h1 : post 1 ()) (h : rk_Ok n (rk_O p q) V (f, t, a1, a2, a3, a4, a5, a6, a7, a8, a9, a10, a11)) (hp : p < n) (hq : q < n) (hw : V p q = w) (hV : ∀ r c, r < n → c < n → ¬ (r = p ∧ c = q) → V r c = 1) :
    ∃ fu, wL_lawOf_719 post mc ms w (nI n) (nI (rk_F n)) (nI (rk_F (n - 1))) (nI q) (nI p) (nI (6 * p + q)) kc ks fu 0 f t a1 a2 a3 a4 a5 a6 a7 a8 a9 a10 a11 := by
  have hn : n < 7 := by have := h.1.2; omega
  refine pk_loop (σ := St2) (fun fu i u => wL_lawOf_719 post mc ms w (nI n) (nI (rk_F n)) (nI (rk_F (n - 1))) (nI q) (nI p) (nI (6 * p + q)) kc ks fu (nI i) u.1 u.2.1 u.2.2.1 u.2.2.2.1 u.2.2.2.2.1 u.2.2.2.2.2.1 u.2.2.2.2.2.2.1 u.2.2.2.2.2.2.2.1 u.2.2.2.2.2.2.2.2.1 u.2.2.2.2.2.2.2.2.2.1 u.2.2.2.2.2.2.2.2.2.2.1 u.2.2.2.2.2.2.2.2.2.2.2.1 u.2.2.2.2.2.2.2.2.2.2.2.2) (fun _ u => rk_Ok n (rk_O p q) V u) n 0 (f, t, a1, a2, a3, a4, a5, a6, a7, a8, a9, a10, a11) (by omega) h ?_ ?_
  · intro fu u h
    obtain ⟨f, t, a1, a2, a3, a4, a5, a6, a7, a8, a9, a10, a11⟩ := u
    exact rk_end h1 h hp hq hw hV
  · intro fu i u hi h hw'
    obtain ⟨f, t, a1, a2, a3, a4, a5, a6, a7, a8, a9, a10, a11⟩ := u
    refine pk_le n i (fun z => absurd z (by omega)) (fun _ => ?_)
    refine rk_columnS (p := p) (q := q) h hp hq (fun _ _ _ _ => rfl) (rk_WO n hn p hp q hq 1 (by omega)) hi (fun ⟨f, t, a1, a2, a3, a4, a5, a6, a7, a8, a9, a10, a11⟩ h => ?_)
    exact pk_eq i p (fun e => rk_L749 h hp hq hi (by rw [if_pos e]) hw') (fun e => rk_L749 h hp hq hi (by rw [if_neg e]) hw')
theorem rk_L684 {z0 z1 : Int32} (h1 : post 1 ()) (h : rk_Ok n (rk_O p q) V (f, t, a1, a2, a3, a4, a5, a6, a7, a8, a9, a10, a11)) (hp : p < n) (hq : q < n) (hw : V p q = w) (hV : ∀ r c, r < n → c < n → ¬ (r = p ∧ c = q) → V r c = 1) (hz : z1 = z0) :
    wL_lawOf_684 post mc ms w (nI n) (nI (rk_F n)) (nI (rk_F (n - 1))) (nI q) (nI p) (nI (6 * p + q)) z0 z1 kc ks f t a1 a2 a3 a4 a5 a6 a7 a8 a9 a10 a11 := by
  have hn : n < 7 := by have := h.1.2; omega
  have hm : rk_Most n (rk_O p q) 1 := rk_mostS (by omega) hp hq (fun _ _ _ _ => rfl)
  refine br_t hz (rk_most h hm (fun ⟨f, t, a1, a2, a3, a4, a5, a6, a7, a8, a9, a10, a11⟩ h => br_t rfl ?_))
  refine rk_lines h hm (fun ⟨f, t, a1, a2, a3, a4, a5, a6, a7, a8, a9, a10, a11⟩ h => br_t rfl ?_)
  exact rk_neededS h hp hq (fun _ _ _ _ => rfl) hm (rk_WO n hn p hp q hq 1 (by omega)) (rk_WE n hn 1 (by omega)) (fun ⟨f, t, a1, a2, a3, a4, a5, a6, a7, a8, a9, a10, a11⟩ h => br_t rfl (rk_L719 h1 h hp hq hw hV))
theorem rk_L655 {z0 z1 : Int32} (h1 : post 1 ()) (h : rk_Ok n (rk_O p q) V (f, t, a1, a2, a3, a4, a5, a6, a7, a8, a9, a10, a11)) (hp : p < n) (hq : q < n) (hw : V p q = w) (hV : ∀ r c, r < n → c < n → ¬ (r = p ∧ c = q) → V r c = 1) (hz : z1 = z0) :
    wL_lawOf_655 post mc ms w (nI n) (nI (rk_F n)) (nI (rk_F (n - 1))) (nI q) (nI p) (nI (6 * p + q)) z0 z1 kc ks f t a1 a2 a3 a4 a5 a6 a7 a8 a9 a10 a11 := by
  have hn : n < 7 := by have := h.1.2; omega
  refine br_t hz (rk_sum1 h (fun ⟨f, t, a1, a2, a3, a4, a5, a6, a7, a8, a9, a10, a11⟩ h => br_t ((rk_sO hn hp hq).trans hw) ?_))
  by_cases e : n = 1
  · subst e
    have ep : p = 0 := by omega
    have eq : q = 0 := by omega
    subst ep eq
    exact rk_ssum1 h (rk_Opq 0 0) (fun ⟨f, t, a1, a2, a3, a4, a5, a6, a7, a8, a9, a10, a11⟩ h => br_t rfl (rk_L684 h1 h hp hq hw hV hw))
  · refine rk_ssum0 h ⟨if p = 0 then 1 else 0, ?_, fun c _ => ?_⟩ (fun ⟨f, t, a1, a2, a3, a4, a5, a6, a7, a8, a9, a10, a11⟩ h => pk_eq n 1 (fun z => absurd z e) (fun _ => rk_L684 h1 h hp hq hw hV rfl))
    · split <;> omega
    · unfold rk_O
      have : ((if p = 0 then 1 else 0) == p) = false := by
        rw [beq_eq_false_iff_ne]
        split <;> omega
      rw [this]
      rfl
/-- the number k is good or bad -/
def rk_Gk (n : Nat) (x13 x3 : Int32) : Prop := (x13 = 0 ∧ rk_gn n x3) ∨ (x13 = 1 ∧ ∃ k, k ≤ n ∧ x3 = nI k)
theorem rk_L623 {x3 x13 z0 z1 : Int32} (h1 : post 1 ()) (hk : rk_Gk n x13 x3) (h : rk_Ok n (rk_O p q) V (f, t, a1, a2, a3, a4, a5, a6, a7, a8, a9, a10, a11)) (hp : p < n) (hq : q < n) (hw : V p q = w) (hV : ∀ r c, r < n → c < n → ¬ (r = p ∧ c = q) → V r c = 1) (hz : z1 = z0) :
    wL_lawOf_623 post mc ms w x3 (nI n) (nI (rk_F n)) (nI (rk_F (n - 1))) (nI q) x13 (nI p) (nI (6 * p + q)) z0 z1 kc ks f t a1 a2 a3 a4 a5 a6 a7 a8 a9 a10 a11 := by
  have hn : n < 7 := by have := h.1.2; omega
  refine br_t hz ?_
  rcases hk with ⟨rfl, hk⟩ | ⟨rfl, k, hk, rfl⟩
  · exact rk_throughN h hp hq hk (br_t rfl (rk_L655 h1 h hp hq hw hV rfl))
  · by_cases e : k = 0
    · subst e
      exact rk_through0 h hp hq hk (Or.inr rfl) (br_f (by decide) (br_f (by decide) (rk_L655 h1 h hp hq hw hV rfl)))
    · refine rk_through1 (M' := rk_E) h hp hq hk e (rk_Opq p q) (fun _ _ _ _ => rk_OE) (fun ⟨f, t, a1, a2, a3, a4, a5, a6, a7, a8, a9, a10, a11⟩ h => br_f (by decide) (pk_eq k 1 (fun g => rk_L655 h1 h hp hq hw hV ?_) (fun g => rk_L655 h1 h hp hq hw hV ?_)))
      · subst g
        rw [rk_WO n hn p hp q hq 1 (by omega), rk_WE n hn 1 (by omega)]
        decide
      · rw [rk_WO n hn p hp q hq k (by omega), rk_WE n hn k (by omega), if_neg (by omega), if_neg e]
        decide
theorem rk_L582 {x3 x13 z0 z1 : Int32} (h1 : post 1 ()) (hk : rk_Gk n x13 x3) (h : rk_Ok n (rk_O p q) V (f, t, a1, a2, a3, a4, a5, a6, a7, a8, a9, a10, a11)) (hp : p < n) (hq : q < n) (hw : V p q = w) (hV : ∀ r c, r < n → c < n → ¬ (r = p ∧ c = q) → V r c = 1) (hz : z1 = z0) :
    wL_lawOf_582 post mc ms w x3 (nI n) (nI (rk_F n)) (nI (rk_F (n - 1))) (nI q) x13 (nI p) (nI (6 * p + q)) z0 z1 kc ks f t a1 a2 a3 a4 a5 a6 a7 a8 a9 a10 a11 := by
  have hn : n < 7 := by have := h.1.2; omega
  have hk' := hk
  refine br_t hz ?_
  rcases hk with ⟨rfl, hk⟩ | ⟨rfl, k, hk, rfl⟩
  · exact rk_hitsB h hk (br_t rfl (rk_L623 h1 hk' h hp hq hw hV rfl))
  · refine rk_hits h hk (fun ⟨f, t, a1, a2, a3, a4, a5, a6, a7, a8, a9, a10, a11⟩ h => br_f (by decide) ?_)
    rw [rk_HO hn hp hq hk]
    refine pk_eq k 0 (fun g => rk_L623 h1 hk' h hp hq hw hV (if_pos g)) (fun g => pk_eq k 1 (fun g2 => rk_L623 h1 hk' h hp hq hw hV ?_) (fun g2 => rk_L623 h1 hk' h hp hq hw hV ?_))
    · rw [if_neg g, if_pos g2]
    · rw [if_neg g, if_neg g2]
theorem rk_L536 {x3 x13 : Int32} (h1 : post 1 ()) (hk : rk_Gk n x13 x3) (h : rk_Ok n (rk_O p q) V (f, t, a1, a2, a3, a4, a5, a6, a7, a8, a9, a10, a11)) (hp : p < n) (hq : q < n) (hw : V p q = w) (hV : ∀ r c, r < n → c < n → ¬ (r = p ∧ c = q) → V r c = 1) :
    wL_lawOf_536 post mc ms w x3 (nI n) (nI (rk_F n)) (nI (rk_F (n - 1))) (nI q) x13 (nI p) kc ks f t a1 a2 a3 a4 a5 a6 a7 a8 a9 a10 a11 := by
  have hn : n < 7 := by have := h.1.2; omega
  have hk' := hk
  refine nm_r (rk_6 p q) (rk_cells h (br_t (by rw [rk_clO n hn p hp q hq]; rfl) ?_))
  rcases hk with ⟨rfl, hk⟩ | ⟨rfl, k, hk, rfl⟩
  · exact rk_rooksB h hk (br_t rfl (rk_L582 h1 hk' h hp hq hw hV rfl))
  · refine rk_rooks h hk (fun ⟨f, t, a1, a2, a3, a4, a5, a6, a7, a8, a9, a10, a11⟩ h => br_f (by decide) ?_)
    rw [rk_WO n hn p hp q hq k (by omega)]
    refine pk_le 2 k (fun g => rk_L582 h1 hk' h hp hq hw hV ?_) (fun g => rk_L582 h1 hk' h hp hq hw hV ?_)
    · rw [if_neg (by omega)]
      rfl
    · rw [if_pos (by omega)]
      rfl
end
end
section
/-! the law on the board with no cell, and its exchange -/
theorem rk_or1n (x : Int32) : ¬ (x ||| 1) = 0 := by
  intro h
  have e : (x ||| 1).toBitVec.getLsbD 0 = (0 : Int32).toBitVec.getLsbD 0 := by rw [h]
  have e1 : (1 : Int32).toBitVec.getLsbD 0 = true := by decide
  have e0 : (0 : Int32).toBitVec.getLsbD 0 = false := by decide
  rw [Int32.toBitVec_or, BitVec.getLsbD_or, e1, e0, Bool.or_true] at e
  exact absurd e (by decide)
def rk_1 : Nat → Nat → Int32 := fun _ _ => 1
def rk_V (p q : Nat) (w : Int32) : Nat → Nat → Int32 := fun r c => if r = p ∧ c = q then w else 1
def rk_Gc (n : Nat) (x12 x1 x10 x11 : Int32) : Prop := (x12 = 0 ∧ rk_gc n x1) ∨ (x12 = 1 ∧ ∃ p q, p < n ∧ q < n ∧ x1 = nI (6 * p + q) ∧ x10 = nI p ∧ x11 = nI q)
def rk_Gi (n : Nat) (x14 x4 : Int32) : Prop := (x14 = 0 ∧ rk_gr n x4) ∨ (x14 = 1 ∧ ∃ i, i < n ∧ x4 = nI i)
section
variable {f : Int32} {t : Int32} {a1 a2 a3 a4 a5 a6 a7 a8 a9 a10 a11 : Nat → Int32} {n p q m : Nat} {V : Nat → Nat → Int32} {post : Int32 → St0 → Prop} {mc ms kc ks : Nat} {x1 w x3 x4 x5 x10 x11 x12 x13 x14 x15 z0 z1 : Int32}
/-- no good cell: the full board -/
theorem rk_L424e (h1 : post 1 ()) (h : rk_Ok n rk_E V (f, t, a1, a2, a3, a4, a5, a6, a7, a8, a9, a10, a11)) (hz : z1 = z0) :
    wL_lawOf_424 post mc ms w x3 x4 x5 (nI n) (nI (rk_F n)) (nI (rk_F (n - 1))) x10 x11 0 x13 x14 x15 z0 z1 kc ks f t a1 a2 a3 a4 a5 a6 a7 a8 a9 a10 a11 := by
  have hn : n < 7 := by have := h.1.2; omega
  have hn1 : 1 ≤ n := h.1.1
  refine br_t hz (br_t rfl (rk_cells h (br_t (by rw [rk_clE n hn]; rfl) ?_)))
  refine rk_complement (M' := rk_Fu n) h (fun r c _ _ => by unfold rk_Fu rk_E; cases decide (c < n) <;> rfl) (fun ⟨f, t, a1, a2, a3, a4, a5, a6, a7, a8, a9, a10, a11⟩ h => br_t (by rw [rk_clF n hn, (rk_nn n hn hn1).1]) ?_)
  refine rk_rooks (k := n) h (Nat.le_refl n) (fun ⟨f, t, a1, a2, a3, a4, a5, a6, a7, a8, a9, a10, a11⟩ h => br_t (by rw [rk_WWp, (rk_WFp n hn).1]) ?_)
  refine rk_most h (rk_mostF (by omega) (fun _ _ _ _ => rfl)) (fun ⟨f, t, a1, a2, a3, a4, a5, a6, a7, a8, a9, a10, a11⟩ h => br_t rfl ?_)
  refine rk_columnF h (decide_eq_true hn1) ?_ ?_ (fun ⟨f, t, a1, a2, a3, a4, a5, a6, a7, a8, a9, a10, a11⟩ h => br_t rfl h1)
  · rw [rk_WWp, (rk_WFp n hn).1]
    exact rk_Fpos n hn
  · rw [rk_WWp, (rk_WFp n hn).2]
    exact rk_Fpos (n - 1) (by omega)
/-- a good cell, no exchange -/
theorem rk_L424b (h1 : post 1 ()) (hk : rk_Gk n x13 x3) (h : rk_Ok n (rk_O p q) V (f, t, a1, a2, a3, a4, a5, a6, a7, a8, a9, a10, a11)) (hp : p < n) (hq : q < n) (hw : V p q = w) (hV : ∀ r c, r < n → c < n → ¬ (r = p ∧ c = q) → V r c = 1) (hg : x14 = 0 ∨ (x14 = 1 ∧ x15 = 0)) (hz : z1 = z0) :
    wL_lawOf_424 post mc ms w x3 x4 x5 (nI n) (nI (rk_F n)) (nI (rk_F (n - 1))) (nI p) (nI q) 1 x13 x14 x15 z0 z1 kc ks f t a1 a2 a3 a4 a5 a6 a7 a8 a9 a10 a11 := by
  refine br_t hz (br_f (by decide) ?_)
  rcases hg with rfl | ⟨rfl, rfl⟩
  · exact br_t rfl (rk_L536 h1 hk h hp hq hw hV)
  · exact br_f (by decide) (br_t rfl (rk_L536 h1 hk h hp hq hw hV))
/-- a good cell, rows exchanged -/
theorem rk_L424x {i j : Nat} (h1 : post 1 ()) (hk : rk_Gk n x13 x3) (h : rk_Ok n (rk_O (rk_sw i j p) q) V (f, t, a1, a2, a3, a4, a5, a6, a7, a8, a9, a10, a11)) (hi : i < n) (hj : j < n) (hp : p < n) (hq : q < n) (hw : V (rk_sw i j p) q = w) (hV : ∀ r c, r < n → c < n → ¬ (r = rk_sw i j p ∧ c = q) → V r c = 1) (hz : z1 = z0) :
    wL_lawOf_424 post mc ms w x3 (nI i) (nI j) (nI n) (nI (rk_F n)) (nI (rk_F (n - 1))) (nI p) (nI q) 1 x13 1 1 z0 z1 kc ks f t a1 a2 a3 a4 a5 a6 a7 a8 a9 a10 a11 := by
  have hn : n < 7 := by have := h.1.2; omega
  refine br_t hz (br_f (by decide) (br_f (by decide) (br_f (by decide) ?_)))
  refine pk_eq p i (fun e => ?_) (fun e => pk_eq p j (fun e2 => ?_) (fun e2 => ?_))
  · have es : rk_sw i j p = j := if_pos e
    rw [es] at h hw hV
    exact rk_L536 h1 hk h hj hq hw hV
  · have es : rk_sw i j p = i := (if_neg e).trans (if_pos e2)
    rw [es] at h hw hV
    exact rk_L536 h1 hk h hi hq hw hV
  · have es : rk_sw i j p = p := (if_neg e).trans (if_neg e2)
    rw [es] at h hw hV
    exact rk_L536 h1 hk h hp hq hw hV
theorem rk_Gb {x y : Int32} (hn : n < 7) (hi : rk_Gi n x14 x) (hj : rk_Gi n x15 y) : ((x14 = 0 ∨ (x14 = 1 ∧ x15 = 0)) ∧ (rk_gr n x ∨ (¬ x < 0 ∧ ¬ nI n ≤ x ∧ rk_gr n y))) ∨ (x14 = 1 ∧ x15 = 1 ∧ ∃ i j, i < n ∧ j < n ∧ x = nI i ∧ y = nI j) := by
  rcases hi with ⟨e, g⟩ | ⟨e, i, hi, ei⟩
  · exact Or.inl ⟨Or.inl e, Or.inl g⟩
  · rcases hj with ⟨e2, g⟩ | ⟨e2, j, hj, ej⟩
    · exact Or.inl ⟨Or.inr ⟨e, e2⟩, Or.inr ⟨by rw [ei]; exact nI_pos (by omega), by rw [ei]; exact nI_ge hi (by omega), g⟩⟩
    · exact Or.inr ⟨e, e2, i, j, hi, hj, ei, ej⟩
theorem rk_L397e (h1 : post 1 ()) (h : rk_Ok n rk_E rk_1 (f, t, a1, a2, a3, a4, a5, a6, a7, a8, a9, a10, a11)) (hi : rk_Gi n x14 x4) (hj : rk_Gi n x15 x5) (hz : z1 = z0) :
    wL_lawOf_397 post mc ms w x3 x4 x5 (nI n) (nI (rk_F n)) (nI (rk_F (n - 1))) x10 x11 0 x13 x14 x15 z0 z1 kc ks f t a1 a2 a3 a4 a5 a6 a7 a8 a9 a10 a11 := by
  have hn : n < 7 := by have := h.1.2; omega
  refine br_t hz ?_
  rcases rk_Gb hn hi hj with ⟨g1, g2⟩ | ⟨rfl, rfl, i, j, hin, hjn, rfl, rfl⟩
  · refine rk_exchangeB h g2 ?_
    rcases g1 with rfl | ⟨rfl, rfl⟩
    · exact br_t rfl (rk_L424e h1 h rfl)
    · exact br_f (by decide) (br_t rfl (rk_L424e h1 h rfl))
  · exact rk_exchange (M' := rk_E) (V' := rk_1) h hin hjn (fun _ _ _ _ => rfl) (fun _ _ _ _ => rfl) (fun ⟨f, t, a1, a2, a3, a4, a5, a6, a7, a8, a9, a10, a11⟩ h => br_f (by decide) (br_f (by decide) (rk_L424e h1 h rfl)))
theorem rk_L397o (h1 : post 1 ()) (hk : rk_Gk n x13 x3) (h : rk_Ok n (rk_O p q) (rk_V p q w) (f, t, a1, a2, a3, a4, a5, a6, a7, a8, a9, a10, a11)) (hp : p < n) (hq : q < n) (hi : rk_Gi n x14 x4) (hj : rk_Gi n x15 x5) (hz : z1 = z0) :
    wL_lawOf_397 post mc ms w x3 x4 x5 (nI n) (nI (rk_F n)) (nI (rk_F (n - 1))) (nI p) (nI q) 1 x13 x14 x15 z0 z1 kc ks f t a1 a2 a3 a4 a5 a6 a7 a8 a9 a10 a11 := by
  have hn : n < 7 := by have := h.1.2; omega
  have v1 : ∀ p q, rk_V p q w p q = w := fun p q => if_pos ⟨rfl, rfl⟩
  have v2 : ∀ p q r c, r < n → c < n → ¬ (r = p ∧ c = q) → rk_V p q w r c = 1 := fun p q r c _ _ g => if_neg g
  refine br_t hz ?_
  rcases rk_Gb hn hi hj with ⟨g1, g2⟩ | ⟨rfl, rfl, i, j, hin, hjn, rfl, rfl⟩
  · refine rk_exchangeB h g2 ?_
    have g1' := g1
    rcases g1 with rfl | ⟨rfl, rfl⟩
    · exact br_t rfl (rk_L424b h1 hk h hp hq (v1 p q) (v2 p q) g1' rfl)
    · exact br_f (by decide) (br_t rfl (rk_L424b h1 hk h hp hq (v1 p q) (v2 p q) g1' rfl))
  · refine rk_exchange (M' := rk_O (rk_sw i j p) q) (V' := rk_V (rk_sw i j p) q w) h hin hjn (fun r c _ _ => ?_) (fun r c _ _ => ?_) (fun ⟨f, t, a1, a2, a3, a4, a5, a6, a7, a8, a9, a10, a11⟩ h => br_f (by decide) (br_f (by decide) (rk_L424x h1 hk h hin hjn hp hq (v1 _ q) (v2 _ q) rfl)))
    · unfold rk_O
      have : (r == rk_sw i j p) = (rk_sw i j r == p) := by
        rw [Bool.eq_iff_iff, beq_iff_eq, beq_iff_eq]
        exact (rk_swi i j r p).symm
      rw [this]
    · unfold rk_V
      simp only [rk_swi i j r p]
theorem rk_L333 (h1 : post 1 ()) (hc : rk_Gc n x12 x1 x10 x11) (hk : rk_Gk n x13 x3) (hi : rk_Gi n x14 x4) (hj : rk_Gi n x15 x5) (h : rk_Ok n rk_E rk_1 (f, t, a1, a2, a3, a4, a5, a6, a7, a8, a9, a10, a11)) (hz : z1 = z0) :
    wL_lawOf_333 post mc ms x1 w x3 x4 x5 (nI n) (nI (rk_F n)) (nI (rk_F (n - 1))) x10 x11 x12 x13 x14 x15 z0 z1 kc ks f t a1 a2 a3 a4 a5 a6 a7 a8 a9 a10 a11 := by
  refine br_t hz ?_
  rcases hc with ⟨rfl, g⟩ | ⟨rfl, p, q, hp, hq, rfl, rfl, rfl⟩
  · exact rk_setB h g (br_t rfl (br_t rfl (rk_setB h g (br_t rfl (br_t rfl (rk_weightB h g (br_t rfl (rk_L397e h1 h hi hj rfl))))))))
  · refine rk_set (M' := rk_O p q) h hp hq (fun z => absurd z (rk_or1n w)) (fun _ _ _ _ _ => rk_EO) (fun ⟨f, t, a1, a2, a3, a4, a5, a6, a7, a8, a9, a10, a11⟩ h => br_f (by decide) (br_t rfl ?_))
    refine rk_set (M' := rk_O p q) h hp hq (fun z => absurd z (by decide)) (fun _ _ _ _ _ => rk_OO) (fun ⟨f, t, a1, a2, a3, a4, a5, a6, a7, a8, a9, a10, a11⟩ h => br_f (by decide) (br_t (by rw [rk_Opq]; rfl) ?_))
    exact rk_weight (V' := rk_V p q w) h hp hq (fun _ _ _ _ => rfl) (fun ⟨f, t, a1, a2, a3, a4, a5, a6, a7, a8, a9, a10, a11⟩ h => br_f (by decide) (rk_L397o h1 hk h hp hq hi hj rfl))
theorem rk_L287 (h1 : post 1 ()) (hc : rk_Gc n x12 x1 x10 x11) (hk : rk_Gk n x13 x3) (hi : rk_Gi n x14 x4) (hj : rk_Gi n x15 x5) (h : rk_Ok n rk_E rk_1 (f, t, a1, a2, a3, a4, a5, a6, a7, a8, a9, a10, a11)) (hz : z1 = z0) :
    wL_lawOf_287 post mc ms x1 w x3 x4 x5 (nI n) (nI (rk_F n)) (nI (rk_F (n - 1))) x10 x11 x12 x13 x14 x15 z0 z1 kc ks f t a1 a2 a3 a4 a5 a6 a7 a8 a9 a10 a11 := by
  have hn : n < 7 := by have := h.1.2; omega
  have hj' := hj
  refine br_t hz ?_
  rcases hj with ⟨rfl, g⟩ | ⟨rfl, j, hjn, rfl⟩
  · exact rk_columnR (k := 0) h (by omega) g (br_t rfl (br_t rfl (rk_columnR (k := 0) h (by omega) g (br_t rfl (rk_L333 h1 hc hk hi hj' h rfl)))))
  · refine rk_column0 h hjn (fun ⟨f, t, a1, a2, a3, a4, a5, a6, a7, a8, a9, a10, a11⟩ h => br_f (by decide) (br_t rfl ?_))
    exact rk_columnX (k := 0) (y := 1) h (by omega) hjn (Or.inr ⟨by decide, by rw [rk_W0]; decide⟩) (fun ⟨f, t, a1, a2, a3, a4, a5, a6, a7, a8, a9, a10, a11⟩ h => br_f (by decide) (rk_L333 h1 hc hk hi hj' h rfl))
theorem rk_L254 (h1 : post 1 ()) (hc : rk_Gc n x12 x1 x10 x11) (hk : rk_Gk n x13 x3) (hi : rk_Gi n x14 x4) (hj : rk_Gi n x15 x5) (h : rk_Ok n rk_E rk_1 (f, t, a1, a2, a3, a4, a5, a6, a7, a8, a9, a10, a11)) (hz : z1 = z0) :
    wL_lawOf_254 post mc ms x1 w x3 x4 x5 (nI n) (nI (rk_F n)) (nI (rk_F (n - 1))) x10 x11 x12 x13 x14 x15 z0 z1 kc ks f t a1 a2 a3 a4 a5 a6 a7 a8 a9 a10 a11 := by
  have hn : n < 7 := by have := h.1.2; omega
  have hn1 : 1 ≤ n := h.1.1
  have hc' := hc
  have hk' := hk
  refine br_t hz (rk_ssum0 h ⟨0, by omega, fun _ _ => rfl⟩ (fun ⟨f, t, a1, a2, a3, a4, a5, a6, a7, a8, a9, a10, a11⟩ h => br_t rfl ?_))
  rcases hc with ⟨rfl, g⟩ | ⟨rfl, p, q, hp, hq, rfl, rfl, rfl⟩
  · exact rk_throughC h g (br_t rfl (rk_L287 h1 hc' hk' hi hj h rfl))
  · rcases hk with ⟨rfl, g⟩ | ⟨rfl, k, hkn, rfl⟩
    · exact rk_throughN h hp hq g (br_f (by decide) (br_t rfl (rk_L287 h1 hc' hk' hi hj h rfl)))
    · exact rk_through0 h hp hq hkn (Or.inl rfl) (br_f (by decide) (br_f (by decide) (rk_L287 h1 hc' hk' hi hj h rfl)))
theorem rk_L201 (h1 : post 1 ()) (hc : rk_Gc n x12 x1 x10 x11) (hk : rk_Gk n x13 x3) (hi : rk_Gi n x14 x4) (hj : rk_Gi n x15 x5) (h : rk_Ok n rk_E rk_1 (f, t, a1, a2, a3, a4, a5, a6, a7, a8, a9, a10, a11)) (hz : z1 = z0) :
    wL_lawOf_201 post mc ms x1 w x3 x4 x5 (nI n) (nI (rk_F n)) (nI (rk_F (n - 1))) x10 x11 x12 x13 x14 x15 z0 z1 kc ks f t a1 a2 a3 a4 a5 a6 a7 a8 a9 a10 a11 := by
  have hn : n < 7 := by have := h.1.2; omega
  have hk' := hk
  have hm : rk_Most n rk_E 0 := rk_mostE (by omega) (fun _ _ _ _ => rfl)
  refine br_t hz (rk_most h hm (fun ⟨f, t, a1, a2, a3, a4, a5, a6, a7, a8, a9, a10, a11⟩ h => br_t rfl ?_))
  refine rk_lines h hm (fun ⟨f, t, a1, a2, a3, a4, a5, a6, a7, a8, a9, a10, a11⟩ h => br_t rfl ?_)
  refine rk_neededE h hm (fun ⟨f, t, a1, a2, a3, a4, a5, a6, a7, a8, a9, a10, a11⟩ h => br_t rfl ?_)
  rcases hk with ⟨rfl, g⟩ | ⟨rfl, k, hkn, rfl⟩
  · exact rk_sumB h g (br_t rfl (rk_L254 h1 hc hk' hi hj h rfl))
  · exact rk_sumE h hkn (fun _ _ _ _ => rfl) (fun ⟨f, t, a1, a2, a3, a4, a5, a6, a7, a8, a9, a10, a11⟩ h => br_f (by decide) (pk_eq k 0 (fun g => rk_L254 h1 hc hk' hi hj h (if_pos g)) (fun g => rk_L254 h1 hc hk' hi hj h (if_neg g))))
theorem rk_L173 (h1 : post 1 ()) (hc : rk_Gc n x12 x1 x10 x11) (hk : rk_Gk n x13 x3) (hi : rk_Gi n x14 x4) (hj : rk_Gi n x15 x5) (h : rk_Ok n rk_E rk_1 (f, t, a1, a2, a3, a4, a5, a6, a7, a8, a9, a10, a11)) (hz : z1 = z0) :
    wL_lawOf_173 post mc ms x1 w x3 x4 x5 (nI n) (nI (rk_F n)) (nI (rk_F (n - 1))) x10 x11 x12 x13 x14 x15 z0 z1 kc ks f t a1 a2 a3 a4 a5 a6 a7 a8 a9 a10 a11 := by
  have hn : n < 7 := by have := h.1.2; omega
  have hk' := hk
  refine br_t hz ?_
  rcases hk with ⟨rfl, g⟩ | ⟨rfl, k, hkn, rfl⟩
  · exact rk_hitsB h g (br_t rfl (rk_L201 h1 hc hk' hi hj h rfl))
  · refine rk_hits h hkn (fun ⟨f, t, a1, a2, a3, a4, a5, a6, a7, a8, a9, a10, a11⟩ h => br_f (by decide) ?_)
    rw [rk_HE hn hkn]
    exact pk_eq k 0 (fun g => rk_L201 h1 hc hk' hi hj h (if_pos g)) (fun g => rk_L201 h1 hc hk' hi hj h (if_neg g))
theorem rk_L139 (h1 : post 1 ()) (hc : rk_Gc n x12 x1 x10 x11) (hk : rk_Gk n x13 x3) (hi : rk_Gi n x14 x4) (hj : rk_Gi n x15 x5) (h : rk_Ok n rk_E rk_1 (f, t, a1, a2, a3, a4, a5, a6, a7, a8, a9, a10, a11)) :
    wL_lawOf_139 post mc ms x1 w x3 x4 x5 (nI n) (nI (rk_F n)) (nI (rk_F (n - 1))) x10 x11 x12 x13 x14 x15 kc ks f t a1 a2 a3 a4 a5 a6 a7 a8 a9 a10 a11 := by
  have hn : n < 7 := by have := h.1.2; omega
  have hk' := hk
  unfold wL_lawOf_139
  refine rk_cells h (br_t (by rw [rk_clE n hn]; rfl) ?_)
  rcases hk with ⟨rfl, g⟩ | ⟨rfl, k, hkn, rfl⟩
  · exact rk_rooksB h g (br_t rfl (rk_L173 h1 hc hk' hi hj h rfl))
  · refine rk_rooks h hkn (fun ⟨f, t, a1, a2, a3, a4, a5, a6, a7, a8, a9, a10, a11⟩ h => br_f (by decide) ?_)
    rw [rk_WE n hn k (by omega)]
    refine pk_eq k 0 (fun g => rk_L173 h1 hc hk' hi hj h ?_) (fun g => rk_L173 h1 hc hk' hi hj h ?_)
    · rw [if_pos g]
      rfl
    · rw [if_neg g]
      rfl
end
end
section
/-! the law's flags, the constructor, the script -/
section
variable {f : Int32} {t : Int32} {a1 a2 a3 a4 a5 a6 a7 a8 a9 a10 a11 : Nat → Int32} {n : Nat} {post : Int32 → St0 → Prop} {mc ms kc ks : Nat} {x1 w x3 x4 x5 x10 x11 x12 x13 x14 : Int32}
theorem rk_L120 (h1 : post 1 ()) (hc : rk_Gc n x12 x1 x10 x11) (hk : rk_Gk n x13 x3) (hi : rk_Gi n x14 x4) (h : rk_Ok n rk_E rk_1 (f, t, a1, a2, a3, a4, a5, a6, a7, a8, a9, a10, a11)) :
    wL_lawOf_120 post mc ms x1 w x3 x4 x5 (nI n) (nI (rk_F n)) (nI (rk_F (n - 1))) x10 x11 x12 x13 x14 kc ks f t a1 a2 a3 a4 a5 a6 a7 a8 a9 a10 a11 := by
  have hn : n < 7 := by have := h.1.2; omega
  refine br_c (fun g => rk_L139 h1 hc hk hi (Or.inl ⟨rfl, Or.inl g⟩) h) (fun g => br_c (fun g2 => rk_L139 h1 hc hk hi (Or.inl ⟨rfl, Or.inr ⟨g, g2⟩⟩) h) (fun g2 => rk_L139 h1 hc hk hi (Or.inr ⟨rfl, ?_⟩) h))
  rcases pk_ix x5 (n := n) (by omega) with e | e | e
  · exact absurd e g
  · exact absurd e g2
  · exact e
theorem rk_L101 (h1 : post 1 ()) (hc : rk_Gc n x12 x1 x10 x11) (hk : rk_Gk n x13 x3) (h : rk_Ok n rk_E rk_1 (f, t, a1, a2, a3, a4, a5, a6, a7, a8, a9, a10, a11)) :
    wL_lawOf_101 post mc ms x1 w x3 x4 x5 (nI n) (nI (rk_F n)) (nI (rk_F (n - 1))) x10 x11 x12 x13 kc ks f t a1 a2 a3 a4 a5 a6 a7 a8 a9 a10 a11 := by
  have hn : n < 7 := by have := h.1.2; omega
  refine br_c (fun g => rk_L120 h1 hc hk (Or.inl ⟨rfl, Or.inl g⟩) h) (fun g => br_c (fun g2 => rk_L120 h1 hc hk (Or.inl ⟨rfl, Or.inr ⟨g, g2⟩⟩) h) (fun g2 => rk_L120 h1 hc hk (Or.inr ⟨rfl, ?_⟩) h))
  rcases pk_ix x4 (n := n) (by omega) with e | e | e
  · exact absurd e g
  · exact absurd e g2
  · exact e
theorem rk_L84 (h1 : post 1 ()) (hc : rk_Gc n x12 x1 x10 x11) (h : rk_Ok n rk_E rk_1 (f, t, a1, a2, a3, a4, a5, a6, a7, a8, a9, a10, a11)) :
    wL_lawOf_84 post mc ms x1 w x3 x4 x5 (nI n) (nI (rk_F n)) (nI (rk_F (n - 1))) x10 x11 x12 kc ks f t a1 a2 a3 a4 a5 a6 a7 a8 a9 a10 a11 := by
  have hn : n < 7 := by have := h.1.2; omega
  refine br_c (fun g => rk_L101 h1 hc (Or.inl ⟨rfl, Or.inl g⟩) h) (fun g => br_c (fun g2 => rk_L101 h1 hc (Or.inl ⟨rfl, Or.inr ⟨g, g2⟩⟩) h) (fun g2 => rk_L101 h1 hc (Or.inr ⟨rfl, ?_⟩) h))
  exact nI_of2 (M := nI n) (nI_toInt (by omega)) g (Int32.not_lt.mp g2)
theorem rk_L31 (h1 : post 1 ()) (h : rk_Ok n rk_E rk_1 (f, t, a1, a2, a3, a4, a5, a6, a7, a8, a9, a10, a11)) : wL_lawOf_31 post mc ms x1 w x3 x4 x5 (nI n) kc ks f t a1 a2 a3 a4 a5 a6 a7 a8 a9 a10 a11 := by
  have hn : n < 7 := by have := h.1.2; omega
  have hn1 : 1 ≤ n := h.1.1
  unfold wL_lawOf_31
  refine rk_product (by omega) ?_
  rw [show nI n - 1 = nI (n - 1) from pk_sub (b := 1) hn1]
  refine rk_product (by omega) ⟨by decide, nm_e ⟨by decide, nm_e ?_⟩⟩
  refine br_c (fun g => rk_L84 h1 (Or.inl ⟨rfl, Or.inl g⟩) h) (fun g => br_c (fun g2 => rk_L84 h1 (Or.inl ⟨rfl, Or.inr ⟨g, Or.inl g2⟩⟩) h) (fun g2 => br_c (fun g3 => rk_L84 h1 (Or.inl ⟨rfl, Or.inr ⟨g, Or.inr ⟨g2, fun z => absurd (Int32.not_le.mpr z) (fun y => y g3)⟩⟩⟩) h) (fun g3 => rk_L84 h1 (Or.inr ⟨rfl, ?_⟩) h)))
  obtain ⟨m, hm, rfl⟩ := nI_of g
  have e1 : nI m / 6 = nI (m / 6) := pk_div (d := 6) hm (by omega) (by omega)
  have e2 : nI m - nI m / 6 * 6 = nI (m % 6) := pk_rem (d := 6) hm (by omega) (by omega)
  refine ⟨m / 6, m % 6, ?_, ?_, by rw [show 6 * (m / 6) + m % 6 = m by omega], e1, e2⟩
  · rw [e1] at g2
    rcases Nat.lt_or_ge (m / 6) n with z | z
    · exact z
    · exact absurd (nI_le z (by omega)) g2
  · rw [e2] at g3
    rcases Nat.lt_or_ge (m % 6) n with z | z
    · exact z
    · exact absurd (nI_le z (by omega)) g3
end
theorem rk_lawOf {post : Int32 → St0 → Prop} {p0 p1 p2 p3 p4 p5 : Int32} (h1 : post 1 ()) : wpL_lawOf post 12 1155 () p0 p1 p2 p3 p4 p5 := by
  refine ⟨by omega, by omega, 11, 1142, by omega, by omega, ?_⟩
  unfold wpX_init
  refine ⟨by omega, by omega, by omega, by omega, by omega, by omega, by omega, by omega, by omega, by omega, by omega, by omega, by omega, by omega, by omega, by omega, by omega, by omega, by omega, by omega, by omega, by omega, ?_⟩
  by_cases g : 1 ≤ p0
  · by_cases g2 : p0 ≤ 6
    · obtain ⟨n, hn, rfl⟩ := nI_of2 (M := 6) (n := 6) (by decide) (show ¬ p0 < 0 from fun z => absurd (Int32.lt_of_le_of_lt g z) (by decide)) g2
      have hn1 : 1 ≤ n := by
        rcases Nat.eq_zero_or_pos n with z | z
        · subst z
          exact absurd g (by decide)
        · exact z
      exact br_t g (br_t g2 (rk_in121 ⟨hn1, hn⟩ (fun ⟨f, t, a1, a2, a3, a4, a5, a6, a7, a8, a9, a10, a11⟩ h => br_t g (br_t g2 (rk_L31 h1 h)))))
    · exact br_t g (br_f g2 (rk_in121 (n := 6) ⟨by omega, by omega⟩ (fun ⟨f, t, a1, a2, a3, a4, a5, a6, a7, a8, a9, a10, a11⟩ h => br_t g (br_f g2 (rk_L31 (n := 6) h1 h)))))
  · exact br_f g (rk_in121 (n := 1) ⟨by omega, by omega⟩ (fun ⟨f, t, a1, a2, a3, a4, a5, a6, a7, a8, a9, a10, a11⟩ h => br_f g (rk_L31 (n := 1) h1 h)))
theorem rk_cell {post : Int32 → Prop} {L : Nat} {xs : Nat → Int32} {i : Nat} (hL : L ≤ 6) (hi : i < 6) (H : ∀ x, post x) : wpL_cellAt post L xs () (nI i) :=
  pk_le L i (fun _ => H _) (fun z => ⟨pk_in i L z, H _⟩)
theorem i_vc (xs : Nat → Int32) (L : Nat) (hL : L ≤ 6) : wpL_law (fun r => r = 1) L xs := by
  unfold wpL_law
  refine rk_cell (i := 0) hL (by omega) (fun x0 => rk_cell (i := 1) hL (by omega) (fun x1 => rk_cell (i := 2) hL (by omega) (fun x2 => rk_cell (i := 3) hL (by omega) (fun x3 => rk_cell (i := 4) hL (by omega) (fun x4 => rk_cell (i := 5) hL (by omega) (fun x5 => ⟨12, 1155, by omega, by omega, ?_⟩))))))
  exact rk_lawOf rfl
end
