section
/-! numbers -/
theorem ec_i8 (l i : Nat) : nI l * 8 + nI i = nI (l * 8 + i) := by
  rw [show (8 : Int32) = nI 8 from rfl, pk_mul, nI_add]
theorem ec_i80 (l : Nat) : nI l * 8 = nI (l * 8) := by
  rw [show (8 : Int32) = nI 8 from rfl, pk_mul]
theorem ec_i5 (l i : Nat) : nI l * 5 + nI i = nI (l * 5 + i) := by
  rw [show (5 : Int32) = nI 5 from rfl, pk_mul, nI_add]
theorem ec_i51 (l i : Nat) : nI l * 5 + nI i + 1 = nI (l * 5 + (i + 1)) := by
  rw [ec_i5, nI_1, Nat.add_assoc]
theorem ec_p1 {n : Nat} (h : 1 ≤ n) : nI n - 1 = nI (n - 1) := by
  rw [show (1 : Int32) = nI 1 from rfl, pk_sub h]
theorem ec_m1 (x : Int32) : x + (-1) = x - 1 := (Int32.sub_eq_add_neg x 1).symm
theorem ec_sl : ∀ n, n < 32 → ((nI n &&& 31).toBitVec.smod 32).toNat = n := by decide +kernel
theorem ec_bit {b k : Nat} (hb : b < 2 ^ 31) (hk : k < 32) : (nI b >>> (nI k &&& 31)) &&& 1 = nI (b / 2 ^ k % 2) := by
  rw [pk_shrN hb (nI k &&& 31) k (ec_sl k hk)]
  have h : b / 2 ^ k < 2 ^ 32 := Nat.lt_of_le_of_lt (Nat.div_le_self _ _) (by omega)
  exact pk_andN h 1 (by decide)
theorem ec_one : ∀ k, k < 13 → (1 : Int32) <<< (nI k &&& 31) = nI (2 ^ k) := by decide +kernel
theorem ec_and (a b : Nat) : nI a &&& nI b = nI (a &&& b) := by
  apply Int32.toBitVec_inj.1
  show BitVec.ofNat 32 a &&& BitVec.ofNat 32 b = BitVec.ofNat 32 (a &&& b)
  apply BitVec.eq_of_getLsbD_eq
  intro i hi
  simp [hi]
theorem ec_or (a b : Nat) : nI a ||| nI b = nI (a ||| b) := by
  apply Int32.toBitVec_inj.1
  show BitVec.ofNat 32 a ||| BitVec.ofNat 32 b = BitVec.ofNat 32 (a ||| b)
  apply BitVec.eq_of_getLsbD_eq
  intro i hi
  simp [hi]
theorem ec_01 {m : Nat} (h : m ≤ 1) : m = 0 ∨ m = 1 := by omega
theorem ec_1a {m : Nat} (h : m ≤ 1) : (1 : Int32) &&& nI m = nI m := by
  rcases ec_01 h with e | e <;> subst e <;> decide
theorem ec_257a {m : Nat} (h : m ≤ 1) : (257 : Int32) &&& nI m = nI m := by
  rcases ec_01 h with e | e <;> subst e <;> decide
theorem ec_a257 {m : Nat} (h : m ≤ 1) : nI m &&& (257 : Int32) = nI m := by
  rcases ec_01 h with e | e <;> subst e <;> decide
theorem ec_257o {a b : Nat} (ha : a ≤ 1) (hb : b ≤ 1) (h : 1 ≤ a + b) : nI (257 * a) ||| nI (257 * b) = 257 := by
  rcases ec_01 ha with e | e <;> rcases ec_01 hb with e' | e' <;> subst e <;> subst e' <;> first | omega | decide
theorem ec_s256 : ∀ i, i < 8 → ¬ (((256 : Int32) >>> (nI i &&& 31)) &&& 1) = 1 := by decide +kernel
theorem ec_s1 : ∀ i, i < 8 → ((((1 : Int32) >>> (nI i &&& 31)) &&& 1) = 1 ↔ i = 0) := by decide +kernel
theorem ec_s0 : ∀ i, i < 8 → ¬ (((0 : Int32) >>> (nI i &&& 31)) &&& 1) = 1 := by decide +kernel
/-! the pure picture -/
def ec_len (h w l : Nat) : Nat := if l < h then w else h
def ec_cell (h w l t : Nat) : Nat := if l < h then l * w + t else t * w + l - h
theorem ec_len4 {h w l : Nat} (hh : h ≤ 3) (hw : w ≤ 4) : ec_len h w l ≤ 4 := by
  unfold ec_len
  split <;> omega
theorem ec_cells : ∀ h, h < 4 → ∀ w, w < 5 → ∀ l, l < h + w → ∀ t, t < ec_len h w l → ec_cell h w l t < h * w := by decide +kernel
theorem ec_hw : ∀ h, h < 4 → ∀ w, w < 5 → h * w < 13 := by decide +kernel
/-- a line's machine -/
def ec_L (l zl ol : Nat) (a11 a12 a13 a14 a15 a16 : Nat → Int32) : Prop :=
  a11 l = 1 ∧ a12 l = 1 ∧ a13 l = 1 ∧ a14 l = nI zl ∧ a15 l = nI ol ∧ a16 (l * 8) = 1 ∧ ∀ p, 1 ≤ p → p < 8 → a16 (l * 8 + p) = 0
/-- the cells' tables -/
def ec_G (h w : Nat) (a1 a2 a3 : Nat → Int32) : Prop := ∀ d, d < h * w → a1 d = nI (d / w) ∧ a2 d = nI (d % w) ∧ a3 d = 2
/-- what stands still in a search -/
def ec_K (h w : Nat) (z o : Nat → Nat) (a1 a2 a3 a11 a12 a13 a14 a15 a16 : Nat → Int32) : Prop :=
  (1 ≤ h ∧ h ≤ 3 ∧ 1 ≤ w ∧ w ≤ 4) ∧ ec_G h w a1 a2 a3 ∧ (∀ l, l < h + w → ec_L l (z l) (o l) a11 a12 a13 a14 a15 a16) ∧ (∀ l, z l ≤ 1 ∧ o l ≤ 1 ∧ 1 ≤ z l + o l)
/-- back is ready -/
def ec_bk (h w : Nat) (b : Nat → Int32) : Prop := ∀ l, l < h + w → ∀ t, t ≤ ec_len h w l → b (l * 5 + t) = 257
/-- the number that digits spell -/
def ec_nm (a : Nat → Int32) : Nat → Int32
  | 0 => 0
  | n + 1 => ec_nm a n * 2 + a n
theorem ec_nm_c {a b : Nat → Int32} : ∀ n, (∀ j, j < n → a j = b j) → ec_nm a n = ec_nm b n := by
  intro n
  induction n with
  | zero => exact fun _ => rfl
  | succ n ih =>
    intro h
    show ec_nm a n * 2 + a n = ec_nm b n * 2 + b n
    rw [ih (fun j hj => h j (by omega)), h n (by omega)]
theorem ec_nm_s {a : Nat → Int32} {d p v : Nat} (h : ec_nm a d = nI p) : ec_nm (upd a d (nI v)) (d + 1) = nI (2 * p + v) := by
  show ec_nm (upd a d (nI v)) d * 2 + upd a d (nI v) d = _
  rw [ec_nm_c (b := a) d (fun j hj => pk_un (by omega)), pk_us, h, show (2 : Int32) = nI 2 from rfl, pk_mul, nI_add, Nat.mul_comm]
/-- a line's set of places behind t letters of the word b -/
def ec_ss (zl ol n b : Nat) : Nat → Nat
  | 0 => 256
  | t + 1 => if ec_ss zl ol n b t = 0 then 0 else if b / 2 ^ (n - 1 - t) % 2 = 0 then zl else ol
theorem ec_ss_in {zl ol n b : Nat} (hz : zl ≤ 1) (ho : ol ≤ 1) : ∀ t, ec_ss zl ol n b t = 256 ∨ ec_ss zl ol n b t = 1 ∨ ec_ss zl ol n b t = 0 := by
  intro t
  cases t with
  | zero => exact Or.inl rfl
  | succ t =>
    show (if ec_ss zl ol n b t = 0 then 0 else if b / 2 ^ (n - 1 - t) % 2 = 0 then zl else ol) = 256 ∨ (if ec_ss zl ol n b t = 0 then 0 else if b / 2 ^ (n - 1 - t) % 2 = 0 then zl else ol) = 1 ∨ (if ec_ss zl ol n b t = 0 then 0 else if b / 2 ^ (n - 1 - t) % 2 = 0 then zl else ol) = 0
    split
    · omega
    · split <;> omega
/-- how many words under c the line takes -/
def ec_ct (zl ol n : Nat) : Nat → Nat
  | 0 => 0
  | c + 1 => ec_ct zl ol n c + if ec_ss zl ol n c n = 0 then 0 else 1
theorem ec_ct_le (zl ol n : Nat) : ∀ c, ec_ct zl ol n c ≤ c := by
  intro c
  induction c with
  | zero => exact Nat.le_refl 0
  | succ c ih =>
    show ec_ct zl ol n c + (if ec_ss zl ol n c n = 0 then 0 else 1) ≤ c + 1
    split <;> omega
/-- the search, pure: fillings, rounds, what all and what any have; k cells from d on -/
def ec_cn (c0 c1 : Nat → Nat) : Nat → Nat → Nat
  | 0, _ => 1
  | k + 1, d => (c0 d + c1 d) * ec_cn c0 c1 k (d + 1)
def ec_rd (c0 c1 : Nat → Nat) : Nat → Nat → Nat
  | 0, _ => 0
  | k + 1, d => 3 + (c0 d + c1 d) * ec_rd c0 c1 k (d + 1)
def ec_an (c0 : Nat → Nat) : Nat → Nat → Nat
  | 0, _ => 0
  | k + 1, d => (1 - c0 d) * 2 ^ k + ec_an c0 k (d + 1)
def ec_on (c1 : Nat → Nat) : Nat → Nat → Nat
  | 0, _ => 0
  | k + 1, d => c1 d * 2 ^ k + ec_on c1 k (d + 1)
theorem ec_an_lt (c0 : Nat → Nat) : ∀ k d, ec_an c0 k d < 2 ^ k := by
  intro k
  induction k with
  | zero => exact fun _ => Nat.one_pos
  | succ k ih =>
    intro d
    have h := ih (d + 1)
    have h1 : (1 - c0 d) * 2 ^ k ≤ 1 * 2 ^ k := Nat.mul_le_mul_right _ (by omega)
    show (1 - c0 d) * 2 ^ k + ec_an c0 k (d + 1) < 2 ^ (k + 1)
    rw [Nat.pow_succ]
    omega
theorem ec_on_lt (c1 : Nat → Nat) (hc : ∀ d, c1 d ≤ 1) : ∀ k d, ec_on c1 k d < 2 ^ k := by
  intro k
  induction k with
  | zero => exact fun _ => Nat.one_pos
  | succ k ih =>
    intro d
    have h := ih (d + 1)
    have h1 : c1 d * 2 ^ k ≤ 1 * 2 ^ k := Nat.mul_le_mul_right _ (hc d)
    show c1 d * 2 ^ k + ec_on c1 k (d + 1) < 2 ^ (k + 1)
    rw [Nat.pow_succ]
    omega
theorem ec_cn_pos (c0 c1 : Nat → Nat) (hc : ∀ d, 1 ≤ c0 d + c1 d) : ∀ k d, 1 ≤ ec_cn c0 c1 k d := by
  intro k
  induction k with
  | zero => exact fun _ => Nat.le_refl 1
  | succ k ih =>
    intro d
    show 1 ≤ (c0 d + c1 d) * ec_cn c0 c1 k (d + 1)
    exact Nat.mul_pos (hc d) (ih (d + 1))
/-- two numbers that differ in one bit -/
theorem ec_tb (p v k x : Nat) (hv : v ≤ 1) (hx : x < 2 ^ k) (j : Nat) : ((2 * p + v) * 2 ^ k + x).testBit j = if j < k then x.testBit j else if j = k then decide (v = 1) else p.testBit (j - k - 1) := by
  rw [Nat.mul_comm, Nat.testBit_two_pow_mul_add _ hx]
  by_cases h : j < k
  · rw [if_pos h, if_pos h]
  · rw [if_neg h, if_neg h]
    by_cases e : j = k
    · subst e
      rw [if_pos rfl, Nat.sub_self, Nat.testBit_zero]
      congr 1
      simp only [eq_iff_iff]
      omega
    · rw [if_neg e, show j - k = (j - k - 1) + 1 by omega, Nat.testBit_succ, show (2 * p + v) / 2 = p by omega, Nat.add_sub_cancel]
theorem ec_and2 (p k x : Nat) (hx : x < 2 ^ k) : ((2 * p + 0) * 2 ^ k + x) &&& ((2 * p + 1) * 2 ^ k + x) = (2 * p + 0) * 2 ^ k + x := by
  apply Nat.eq_of_testBit_eq
  intro j
  rw [Nat.testBit_and, ec_tb p 0 k x (by omega) hx, ec_tb p 1 k x (by omega) hx]
  split
  · exact Bool.and_self _
  · split
    · rfl
    · exact Bool.and_self _
theorem ec_or2 (p k x : Nat) (hx : x < 2 ^ k) : ((2 * p + 0) * 2 ^ k + x) ||| ((2 * p + 1) * 2 ^ k + x) = (2 * p + 1) * 2 ^ k + x := by
  apply Nat.eq_of_testBit_eq
  intro j
  rw [Nat.testBit_or, ec_tb p 0 k x (by omega) hx, ec_tb p 1 k x (by omega) hx]
  split
  · exact Bool.or_self _
  · split
    · rfl
    · exact Bool.or_self _
end
section
theorem ec_step22 {post : Int32 → Prop} {h w l v : Nat} {s : Int32} {r : Nat → Int32} {fh fp fd ff fu fa fo : Int32} {a1 a2 a3 a4 a5 a6 a7 a8 a9 a10 a11 a12 a13 a14 a15 a16 a17 a18 a19 a20 a21 : Nat → Int32} (hl : l < 7) (hv : v < 2)
    (hr : ∀ i, i < 8 → ((((s >>> (nI i &&& 31)) &&& 1) = 1 ∧ r (i + 1) = r i ||| a16 (l * 8 + i)) ∨ (¬ ((s >>> (nI i &&& 31)) &&& 1) = 1 ∧ r (i + 1) = r i)))
    (hp : post (r 8 &&& (if v = 0 then a14 l else a15 l))) : ∃ n, wX_step_22 post (nI l) s (nI v) (nI h) (nI w) (nI (h + w)) (nI (h * w)) fh fp fd ff fu fa fo a1 a2 a3 a4 a5 a6 a7 a8 a9 a10 a11 a12 a13 a14 a15 a16 a17 a18 a19 a20 a21 n (r 0) 0 := by
  refine pk_loop (fun n i x => wX_step_22 post (nI l) s (nI v) (nI h) (nI w) (nI (h + w)) (nI (h * w)) fh fp fd ff fu fa fo a1 a2 a3 a4 a5 a6 a7 a8 a9 a10 a11 a12 a13 a14 a15 a16 a17 a18 a19 a20 a21 n x (nI i)) (fun i x => x = r i) 8 0 (r 0) (by omega) rfl (fun n x hx => ?_) (fun n i x hi hx hw => ?_)
  · subst hx
    refine pk_le 8 8 (fun _ => ?_) (fun z => absurd z (by omega))
    refine pk_eq v 0 (fun e => ⟨pk_in l 7 hl, ?_⟩) (fun e => ⟨pk_in l 7 hl, ?_⟩)
    · rw [nI_clamp (show l < 2 ^ 31 by omega)]
      rw [if_pos e] at hp
      exact hp
    · rw [nI_clamp (show l < 2 ^ 31 by omega)]
      rw [if_neg e] at hp
      exact hp
  · subst hx
    refine pk_le 8 i (fun z => absurd z (by omega)) (fun _ => ?_)
    rcases hr i hi with ⟨hc, hq⟩ | ⟨hc, hq⟩
    · refine br_t hc ⟨pk_in (l * 8 + i) 56 (by omega) (ec_i8 l i), nm_r (e' := r (i + 1)) ?_ (nm_r (nI_1 i) (hw _ rfl))⟩
      rw [hq, pk_cl (l * 8 + i) (ec_i8 l i) (by omega)]
    · exact br_f hc (nm_r (nI_1 i) (hw _ hq.symm))
theorem ec_step {post : Int32 → Prop} {h w l zl ol v : Nat} {s : Int32} {fh fp fd ff fu fa fo : Int32} {a1 a2 a3 a4 a5 a6 a7 a8 a9 a10 a11 a12 a13 a14 a15 a16 a17 a18 a19 a20 a21 : Nat → Int32} (hl : l < 7) (hv : v < 2) (hL : ec_L l zl ol a11 a12 a13 a14 a15 a16) (hz : zl ≤ 1) (ho : ol ≤ 1)
    (hs : s = 256 ∨ s = 1) (hp : post (nI (if v = 0 then zl else ol))) : wpX_step post ((nI h), (nI w), (nI (h + w)), (nI (h * w)), fh, fp, fd, ff, fu, fa, fo, a1, a2, a3, a4, a5, a6, a7, a8, a9, a10, a11, a12, a13, a14, a15, a16, a17, a18, a19, a20, a21) (nI l) s (nI v) := by
  obtain ⟨h11, _, _, h14, h15, h16, h16'⟩ := hL
  have hq : post (1 &&& (if v = 0 then a14 l else a15 l)) := by
    by_cases e : v = 0
    · rw [if_pos e, h14, ec_1a hz]
      rw [if_pos e] at hp
      exact hp
    · rw [if_neg e, h15, ec_1a ho]
      rw [if_neg e] at hp
      exact hp
  rcases hs with e | e
  · subst e
    refine br_f (by decide) ⟨pk_in l 7 hl, nm_r (e' := 1) (by rw [nI_clamp (show l < 2 ^ 31 by omega), h11]) ?_⟩
    exact ec_step22 (r := fun _ => 1) hl hv (fun i hi => Or.inr ⟨ec_s256 i hi, rfl⟩) hq
  · subst e
    refine br_t (by decide) ?_
    refine ec_step22 (r := fun i => if i = 0 then 0 else 1) hl hv (fun i hi => ?_) hq
    by_cases e : i = 0
    · subst e
      refine Or.inl ⟨by decide, ?_⟩
      show (1 : Int32) = 0 ||| a16 (l * 8)
      rw [h16]
      decide
    · refine Or.inr ⟨fun c => e ((ec_s1 i hi).mp c), ?_⟩
      show (if i + 1 = 0 then (0 : Int32) else 1) = if i = 0 then (0 : Int32) else 1
      rw [if_neg e, if_neg (by omega)]
theorem ec_step0 {post : Int32 → Prop} {h w l v : Nat} {fh fp fd ff fu fa fo : Int32} {a1 a2 a3 a4 a5 a6 a7 a8 a9 a10 a11 a12 a13 a14 a15 a16 a17 a18 a19 a20 a21 : Nat → Int32} (hl : l < 7) (hv : v < 2) (hp : post 0) : wpX_step post ((nI h), (nI w), (nI (h + w)), (nI (h * w)), fh, fp, fd, ff, fu, fa, fo, a1, a2, a3, a4, a5, a6, a7, a8, a9, a10, a11, a12, a13, a14, a15, a16, a17, a18, a19, a20, a21) (nI l) 0 (nI v) := by
  refine br_t (by decide) ?_
  refine ec_step22 (r := fun _ => 0) hl hv (fun i hi => Or.inr ⟨ec_s0 i hi, rfl⟩) ?_
  rw [show (fun _ => (0 : Int32)) 8 &&& (if v = 0 then a14 l else a15 l) = 0 from Int32.zero_and]
  exact hp
theorem ec_bef48 {post : Int32 → Prop} {h w l : Nat} {g : Int32} {r : Nat → Int32} {fh fp fd ff fu fa fo : Int32} {a1 a2 a3 a4 a5 a6 a7 a8 a9 a10 a11 a12 a13 a14 a15 a16 a17 a18 a19 a20 a21 : Nat → Int32} (hl : l < 7)
    (hr : ∀ i, i < 8 → (((a16 (l * 8 + i) &&& g) = 0 ∧ r (i + 1) = r i) ∨ (¬ (a16 (l * 8 + i) &&& g) = 0 ∧ r (i + 1) = r i ||| ((1 : Int32) <<< (nI i &&& 31)))))
    (hp : post (r 8)) : ∃ n, wX_before_48 post (nI l) g (nI h) (nI w) (nI (h + w)) (nI (h * w)) fh fp fd ff fu fa fo a1 a2 a3 a4 a5 a6 a7 a8 a9 a10 a11 a12 a13 a14 a15 a16 a17 a18 a19 a20 a21 n (r 0) 0 := by
  refine pk_loop (fun n i x => wX_before_48 post (nI l) g (nI h) (nI w) (nI (h + w)) (nI (h * w)) fh fp fd ff fu fa fo a1 a2 a3 a4 a5 a6 a7 a8 a9 a10 a11 a12 a13 a14 a15 a16 a17 a18 a19 a20 a21 n x (nI i)) (fun i x => x = r i) 8 0 (r 0) (by omega) rfl (fun n x hx => ?_) (fun n i x hi hx hw => ?_)
  · subst hx
    exact pk_le 8 8 (fun _ => hp) (fun z => absurd z (by omega))
  · subst hx
    refine pk_le 8 i (fun z => absurd z (by omega)) (fun _ => ⟨pk_in (l * 8 + i) 56 (by omega) (ec_i8 l i), ?_⟩)
    rw [pk_cl (l * 8 + i) (ec_i8 l i) (by omega)]
    rcases hr i hi with ⟨hc, hq⟩ | ⟨hc, hq⟩
    · exact br_t hc (nm_r (nI_1 i) (hw _ hq.symm))
    · exact br_f hc (nm_r hq.symm (nm_r (nI_1 i) (hw _ rfl)))
theorem ec_bef23 {post : Int32 → Prop} {h w l zl ol m : Nat} {fh fp fd ff fu fa fo : Int32} {a1 a2 a3 a4 a5 a6 a7 a8 a9 a10 a11 a12 a13 a14 a15 a16 a17 a18 a19 a20 a21 : Nat → Int32} (hl : l < 7) (hL : ec_L l zl ol a11 a12 a13 a14 a15 a16) (hm : m ≤ 1) (hp : post (nI (257 * m))) : wX_before_23 post (nI l) (nI m) (nI h) (nI w) (nI (h + w)) (nI (h * w)) fh fp fd ff fu fa fo a1 a2 a3 a4 a5 a6 a7 a8 a9 a10 a11 a12 a13 a14 a15 a16 a17 a18 a19 a20 a21 := by
  obtain ⟨h11, _, _, _, _, h16, h16'⟩ := hL
  unfold wX_before_23
  refine ⟨pk_in l 7 hl, ?_⟩
  rw [nI_clamp (show l < 2 ^ 31 by omega), h11]
  rcases ec_01 hm with e | e
  · subst e
    refine br_t (by decide) ?_
    refine ec_bef48 (r := fun _ => 0) hl (fun i hi => Or.inl ⟨?_, rfl⟩) hp
    exact Int32.and_zero
  · subst e
    refine br_f (by decide) ?_
    refine ec_bef48 (r := fun i => if i = 0 then 256 else 257) hl (fun i hi => ?_) hp
    by_cases e : i = 0
    · subst e
      refine Or.inr ⟨?_, by decide⟩
      show ¬ a16 (l * 8) &&& nI 1 = 0
      rw [h16]
      decide
    · refine Or.inl ⟨?_, ?_⟩
      · rw [h16' i (by omega) hi]
        exact Int32.zero_and
      · show (if i + 1 = 0 then (256 : Int32) else 257) = if i = 0 then (256 : Int32) else 257
        rw [if_neg e, if_neg (by omega)]
theorem ec_before {post : Int32 → Prop} {h w l zl ol v : Nat} {fh fp fd ff fu fa fo : Int32} {a1 a2 a3 a4 a5 a6 a7 a8 a9 a10 a11 a12 a13 a14 a15 a16 a17 a18 a19 a20 a21 : Nat → Int32} (hl : l < 7) (hv : v < 2) (hL : ec_L l zl ol a11 a12 a13 a14 a15 a16) (hz : zl ≤ 1) (ho : ol ≤ 1)
    (hp : post (nI (257 * (if v = 0 then zl else ol)))) : wpX_before post ((nI h), (nI w), (nI (h + w)), (nI (h * w)), fh, fp, fd, ff, fu, fa, fo, a1, a2, a3, a4, a5, a6, a7, a8, a9, a10, a11, a12, a13, a14, a15, a16, a17, a18, a19, a20, a21) (nI l) 257 (nI v) := by
  refine pk_eq v 0 (fun e => ⟨pk_in l 7 hl, ?_⟩) (fun e => ⟨pk_in l 7 hl, ?_⟩)
  · rw [nI_clamp (show l < 2 ^ 31 by omega), hL.2.2.2.1, ec_257a hz]
    rw [if_pos e] at hp
    exact ec_bef23 hl hL hz hp
  · rw [nI_clamp (show l < 2 ^ 31 by omega), hL.2.2.2.2.1, ec_257a ho]
    rw [if_neg e] at hp
    exact ec_bef23 hl hL ho hp
theorem ec_lineLength {post : Int32 → Prop} {h w l : Nat} {fh fp fd ff fu fa fo : Int32} {a1 a2 a3 a4 a5 a6 a7 a8 a9 a10 a11 a12 a13 a14 a15 a16 a17 a18 a19 a20 a21 : Nat → Int32} (hh : h ≤ 3) (hl : l < 7) (hp : post (nI (ec_len h w l))) : wpX_lineLength post ((nI h), (nI w), (nI (h + w)), (nI (h * w)), fh, fp, fd, ff, fu, fa, fo, a1, a2, a3, a4, a5, a6, a7, a8, a9, a10, a11, a12, a13, a14, a15, a16, a17, a18, a19, a20, a21) (nI l) := by
  refine pk_le h l (fun e => ?_) (fun e => ?_)
  · rw [ec_len, if_neg (by omega)] at hp
    exact hp
  · rw [ec_len, if_pos e] at hp
    exact hp
theorem ec_cellOf {post : Int32 → Prop} {h w l t : Nat} {fh fp fd ff fu fa fo : Int32} {a1 a2 a3 a4 a5 a6 a7 a8 a9 a10 a11 a12 a13 a14 a15 a16 a17 a18 a19 a20 a21 : Nat → Int32} (hh : h ≤ 3) (hl : l < 7) (hp : post (nI (ec_cell h w l t))) : wpX_cellOf post ((nI h), (nI w), (nI (h + w)), (nI (h * w)), fh, fp, fd, ff, fu, fa, fo, a1, a2, a3, a4, a5, a6, a7, a8, a9, a10, a11, a12, a13, a14, a15, a16, a17, a18, a19, a20, a21) (nI l) (nI t) := by
  refine pk_le h l (fun e => ?_) (fun e => ?_)
  · rw [ec_cell, if_neg (by omega)] at hp
    rw [pk_mul, nI_add, pk_sub (by omega)]
    exact hp
  · rw [ec_cell, if_pos e] at hp
    rw [pk_mul, nI_add]
    exact hp
end
section
theorem ec_pl44 {post : St2 → Prop} {h w l : Nat} {z o : Nat → Nat} {fh fp fd ff fu fa fo : Int32} {a1 a2 a3 a4 a5 a6 a7 a8 a9 a10 a11 a12 a13 a14 a15 a16 a17 a18 a19 a20 a21 : Nat → Int32} (K : ec_K h w z o a1 a2 a3 a11 a12 a13 a14 a15 a16) (hl : l < h + w)
    (hp : ∀ b, (∀ t, t ≤ ec_len h w l → b (l * 5 + t) = 257) → (∀ j, j < l * 5 → b j = a17 j) → post ((nI h), (nI w), (nI (h + w)), (nI (h * w)), fh, fp, fd, ff, fu, fa, fo, a1, a2, a3, a4, a5, a6, a7, a8, a9, a10, a11, a12, a13, a14, a15, a16, b, a18, a19, a20, a21)) :
    ∀ k, k ≤ ec_len h w l → ∀ b, (∀ t, k ≤ t → t ≤ ec_len h w l → b (l * 5 + t) = 257) → (∀ j, j < l * 5 → b j = a17 j) →
      wX_prepareLine_44 post (nI l) (nI h) (nI w) (nI (h + w)) (nI (h * w)) fh fp fd ff fu fa fo (k + 1) 257 (nI k - 1) a1 a2 a3 a4 a5 a6 a7 a8 a9 a10 a11 a12 a13 a14 a15 a16 b a18 a19 a20 a21 := by
  obtain ⟨⟨h1, h3, w1, w4⟩, G, hL, hzo⟩ := K
  have hL := hL l hl
  obtain ⟨hz, ho, hzo⟩ := hzo l
  have hl7 : l < 7 := by omega
  have hn := ec_len4 (l := l) h3 w4
  intro k
  induction k with
  | zero => exact fun _ b b1 b2 => br_t (by decide) (hp b (fun t ht => b1 t (Nat.zero_le t) ht) b2)
  | succ k ih =>
    intro hk b b1 b2
    have hc := ec_cells h (by omega) w (by omega) l hl k (by omega)
    have h12 := ec_hw h (by omega) w (by omega)
    have g3 := (G _ hc).2.2
    rw [nI_pred]
    refine br_f (nI_pos (by omega)) ?_
    refine ec_cellOf h3 hl7 ?_
    refine ⟨pk_in (ec_cell h w l k) 12 (by omega), br_f ?_ ?_⟩
    · rw [nI_clamp (by omega), g3]
      decide
    refine ec_before (v := 0) hl7 (by omega) hL hz ho ?_
    refine ⟨pk_in (ec_cell h w l k) 12 (by omega), br_f ?_ ?_⟩
    · rw [nI_clamp (by omega), g3]
      decide
    refine ec_before (v := 1) hl7 (by omega) hL hz ho ?_
    refine nm_r (ec_257o hz ho hzo) ?_
    refine ⟨pk_in (l * 5 + k) 35 (by omega) (ec_i5 l k), nm_r (e' := upd b (l * 5 + k) 257) (by rw [pk_cl (l * 5 + k) (ec_i5 l k) (by omega)]) (nm_r (ec_m1 (nI k)) ?_)⟩
    refine ih (by omega) _ (fun t h1 h2 => ?_) (fun j hj => ?_)
    · by_cases e : t = k
      · rw [e, pk_us]
      · rw [pk_un (by omega)]
        exact b1 t (by omega) h2
    · rw [pk_un (by omega)]
      exact b2 j hj
theorem ec_prepLine {post : St2 → Prop} {h w l : Nat} {z o : Nat → Nat} {fh fp fd ff fu fa fo : Int32} {a1 a2 a3 a4 a5 a6 a7 a8 a9 a10 a11 a12 a13 a14 a15 a16 a17 a18 a19 a20 a21 : Nat → Int32} (K : ec_K h w z o a1 a2 a3 a11 a12 a13 a14 a15 a16) (hl : l < h + w)
    (hp : ∀ b, (∀ t, t ≤ ec_len h w l → b (l * 5 + t) = 257) → (∀ j, j < l * 5 → b j = a17 j) → post ((nI h), (nI w), (nI (h + w)), (nI (h * w)), fh, fp, fd, ff, fu, fa, fo, a1, a2, a3, a4, a5, a6, a7, a8, a9, a10, a11, a12, a13, a14, a15, a16, b, a18, a19, a20, a21)) : wpX_prepareLine post ((nI h), (nI w), (nI (h + w)), (nI (h * w)), fh, fp, fd, ff, fu, fa, fo, a1, a2, a3, a4, a5, a6, a7, a8, a9, a10, a11, a12, a13, a14, a15, a16, a17, a18, a19, a20, a21) (nI l) := by
  have K' := K
  obtain ⟨⟨h1, h3, w1, w4⟩, G, hL, hzo⟩ := K'
  obtain ⟨h11, h12, h13, _⟩ := hL l hl
  have hl7 : l < 7 := by omega
  have hn := ec_len4 (l := l) h3 w4
  have hn1 : 1 ≤ ec_len h w l := by
    unfold ec_len
    split <;> omega
  unfold wpX_prepareLine
  refine ec_lineLength h3 hl7 ?_
  refine ⟨pk_in l 7 hl7, nm_r (e' := 1) (by rw [nI_clamp (show l < 2 ^ 31 by omega), h12]) ⟨pk_in l 7 hl7, br_f (by rw [nI_clamp (show l < 2 ^ 31 by omega), h13]; decide) (nm_r (e' := 257) (by decide) ?_)⟩⟩
  refine ⟨pk_in (l * 5 + ec_len h w l) 35 (by omega) (ec_i5 l _), nm_r (e' := upd a17 (l * 5 + ec_len h w l) 257) (by rw [pk_cl _ (ec_i5 l _) (by omega)]) (nm_e ⟨_, ec_pl44 K hl hp (ec_len h w l) (Nat.le_refl _) _ (fun t t1 t2 => ?_) (fun j hj => ?_)⟩)⟩
  · rw [show t = ec_len h w l by omega, pk_us]
  · rw [pk_un (by omega)]
theorem ec_prep10 {post : St2 → Prop} {h w : Nat} {z o : Nat → Nat} {fh fp fd ff fu fa fo : Int32} {a1 a2 a3 a4 a5 a6 a7 a8 a9 a10 a11 a12 a13 a14 a15 a16 a18 a19 a20 a21 : Nat → Int32} (K : ec_K h w z o a1 a2 a3 a11 a12 a13 a14 a15 a16)
    (hp : ∀ b, ec_bk h w b → post ((nI h), (nI w), (nI (h + w)), (nI (h * w)), fh, fp, 1, ff, fu, fa, fo, a1, a2, a3, a4, a5, a6, a7, a8, a9, a10, a11, a12, a13, a14, a15, a16, b, a18, a19, a20, a21)) :
    ∀ k l, l + k = h + w → ∀ b, (∀ i, i < l → ∀ t, t ≤ ec_len h w i → b (i * 5 + t) = 257) → wX_prepare_10 post (k + 1) (nI l) (nI h) (nI w) (nI (h + w)) (nI (h * w)) fh fp fd ff fu fa fo a1 a2 a3 a4 a5 a6 a7 a8 a9 a10 a11 a12 a13 a14 a15 a16 b a18 a19 a20 a21 := by
  have K' := K
  obtain ⟨⟨h1, h3, w1, w4⟩, G, hL, hzo⟩ := K'
  intro k
  induction k with
  | zero =>
    intro l hl b hb
    refine pk_le (h + w) l (fun _ => hp b ?_) (fun z => absurd z (by omega))
    intro i hi
    exact hb i (by omega)
  | succ k ih =>
    intro l hl b hb
    refine pk_le (h + w) l (fun z => absurd z (by omega)) (fun _ => ?_)
    refine ec_prepLine K (by omega) (fun c c1 c2 => ?_)
    refine nm_r (nI_1 l) (ih (l + 1) (by omega) c (fun i hi t ht => ?_))
    by_cases e : i = l
    · subst e
      exact c1 t ht
    · have := ec_len4 (l := i) h3 w4
      rw [c2 _ (by omega)]
      exact hb i (by omega) t ht
theorem ec_prepare {post : St2 → Prop} {h w : Nat} {z o : Nat → Nat} {fh fp fd ff fu fa fo : Int32} {a1 a2 a3 a4 a5 a6 a7 a8 a9 a10 a11 a12 a13 a14 a15 a16 a17 a18 a19 a20 a21 : Nat → Int32} (K : ec_K h w z o a1 a2 a3 a11 a12 a13 a14 a15 a16) (hr : fd = 0 ∨ (fd = 1 ∧ ec_bk h w a17))
    (hp : ∀ b, ec_bk h w b → post ((nI h), (nI w), (nI (h + w)), (nI (h * w)), fh, fp, 1, ff, fu, fa, fo, a1, a2, a3, a4, a5, a6, a7, a8, a9, a10, a11, a12, a13, a14, a15, a16, b, a18, a19, a20, a21)) : wpX_prepare post ((nI h), (nI w), (nI (h + w)), (nI (h * w)), fh, fp, fd, ff, fu, fa, fo, a1, a2, a3, a4, a5, a6, a7, a8, a9, a10, a11, a12, a13, a14, a15, a16, a17, a18, a19, a20, a21) := by
  rcases hr with e | ⟨e, hb⟩
  · subst e
    exact br_t rfl ⟨_, ec_prep10 K hp (h + w) 0 (by omega) a17 (fun i hi => absurd hi (by omega))⟩
  · subst e
    exact br_f (by decide) (hp a17 hb)
end
section
theorem ec_spells {post : Int32 → Prop} {h w l b : Nat} {z o : Nat → Nat} {fh fp fd ff fu fa fo : Int32} {a1 a2 a3 a4 a5 a6 a7 a8 a9 a10 a11 a12 a13 a14 a15 a16 a17 a18 a19 a20 a21 : Nat → Int32} (K : ec_K h w z o a1 a2 a3 a11 a12 a13 a14 a15 a16) (B : ec_bk h w a17) (hl : l < h + w) (hb : b < 2 ^ 31)
    (hp : post (if ec_ss (z l) (o l) (ec_len h w l) b (ec_len h w l) = 0 then 0 else 1)) : wpX_spells post ((nI h), (nI w), (nI (h + w)), (nI (h * w)), fh, fp, fd, ff, fu, fa, fo, a1, a2, a3, a4, a5, a6, a7, a8, a9, a10, a11, a12, a13, a14, a15, a16, a17, a18, a19, a20, a21) (nI l) (nI (ec_len h w l)) (nI b) := by
  obtain ⟨⟨h1, h3, w1, w4⟩, G, hL, hzo⟩ := K
  have hL := hL l hl
  obtain ⟨hz, ho, hzo⟩ := hzo l
  have hl7 : l < 7 := by omega
  have hn := ec_len4 (l := l) h3 w4
  have h12 := ec_hw h (by omega) w (by omega)
  refine pk_loop (fun n i x => wX_spells_8 post (nI l) (nI (ec_len h w l)) (nI b) (nI h) (nI w) (nI (h + w)) (nI (h * w)) fh fp fd ff fu fa fo a1 a2 a3 a4 a5 a6 a7 a8 a9 a10 a11 a12 a13 a14 a15 a16 a17 a18 a19 a20 a21 n x (nI i)) (fun i x => x = nI (ec_ss (z l) (o l) (ec_len h w l) b i)) (ec_len h w l) 0 256 (by omega) rfl (fun n x hx => ?_) (fun n i x hi hx hw => ?_)
  · subst hx
    refine pk_le (ec_len h w l) (ec_len h w l) (fun _ => ?_) (fun z => absurd z (by omega))
    have hs := ec_ss_in (n := ec_len h w l) (b := b) hz ho (ec_len h w l)
    refine pk_eq (ec_ss (z l) (o l) (ec_len h w l) b (ec_len h w l)) 0 (fun e => ?_) (fun e => ?_)
    · rw [if_pos e] at hp
      exact hp
    · rw [if_neg e] at hp
      exact hp
  · subst hx
    refine pk_le (ec_len h w l) i (fun z => absurd z (by omega)) (fun _ => ?_)
    have hc := ec_cells h (by omega) w (by omega) l hl i hi
    have g3 := (G _ hc).2.2
    refine nm_r (e' := nI (b / 2 ^ (ec_len h w l - 1 - i) % 2)) ?_ ?_
    · rw [ec_p1 (by omega), pk_sub (by omega), ec_bit hb (by omega)]
    refine ec_cellOf h3 hl7 ?_
    refine ⟨pk_in (ec_cell h w l i) 12 (by omega), nm_r (e' := 2) (by rw [nI_clamp (by omega), g3]) (br_t rfl ?_)⟩
    have hv : b / 2 ^ (ec_len h w l - 1 - i) % 2 < 2 := Nat.mod_lt _ (by omega)
    have hbk := B l hl (i + 1) (by omega)
    have fin : ∀ r : Nat, r ≤ 1 → ec_ss (z l) (o l) (ec_len h w l) b (i + 1) = r → (vp_in (nI l * 5 + nI i + 1) 35 ∧ ∀ x4_10 : Int32, x4_10 = nI r &&& a17 (nI l * 5 + nI i + 1).toNatClampNeg → ∀ x5_11 : Int32, x5_11 = nI i + 1 → wX_spells_8 post (nI l) (nI (ec_len h w l)) (nI b) (nI h) (nI w) (nI (h + w)) (nI (h * w)) fh fp fd ff fu fa fo a1 a2 a3 a4 a5 a6 a7 a8 a9 a10 a11 a12 a13 a14 a15 a16 a17 a18 a19 a20 a21 n x4_10 x5_11) := by
      intro r hr e
      refine ⟨pk_in (l * 5 + (i + 1)) 35 (by omega) (ec_i51 l i), nm_r (e' := nI r) ?_ (nm_r (nI_1 i) (hw _ (by rw [e])))⟩
      rw [pk_cl _ (ec_i51 l i) (by omega), hbk, ec_a257 hr]
    unfold wX_spells_55
    rcases ec_ss_in (n := ec_len h w l) (b := b) hz ho i with e | e | e
    · refine ec_step hl7 hv hL hz ho (Or.inl (by rw [e]; rfl)) (fin _ ?_ ?_)
      · split <;> omega
      · show (if ec_ss (z l) (o l) (ec_len h w l) b i = 0 then 0 else _) = _
        rw [if_neg (by omega)]
    · refine ec_step hl7 hv hL hz ho (Or.inr (by rw [e]; rfl)) (fin _ ?_ ?_)
      · split <;> omega
      · show (if ec_ss (z l) (o l) (ec_len h w l) b i = 0 then 0 else _) = _
        rw [if_neg (by omega)]
    · rw [e]
      refine ec_step0 hl7 hv (fin 0 (by omega) ?_)
      show (if ec_ss (z l) (o l) (ec_len h w l) b i = 0 then 0 else _) = _
      rw [if_pos e]
theorem ec_lineWords {post : Int32 → St2 → Prop} {h w l : Nat} {z o : Nat → Nat} {fh fp fd ff fu fa fo : Int32} {a1 a2 a3 a4 a5 a6 a7 a8 a9 a10 a11 a12 a13 a14 a15 a16 a17 a18 a19 a20 a21 : Nat → Int32} (K : ec_K h w z o a1 a2 a3 a11 a12 a13 a14 a15 a16) (hr : fd = 0 ∨ (fd = 1 ∧ ec_bk h w a17)) (hl : l < h + w)
    (hp : ∀ b, ec_bk h w b → post (nI (ec_ct (z l) (o l) (ec_len h w l) (2 ^ ec_len h w l))) ((nI h), (nI w), (nI (h + w)), (nI (h * w)), fh, fp, 1, ff, fu, fa, fo, a1, a2, a3, a4, a5, a6, a7, a8, a9, a10, a11, a12, a13, a14, a15, a16, b, a18, a19, a20, a21)) : wpX_lineWords post ((nI h), (nI w), (nI (h + w)), (nI (h * w)), fh, fp, fd, ff, fu, fa, fo, a1, a2, a3, a4, a5, a6, a7, a8, a9, a10, a11, a12, a13, a14, a15, a16, a17, a18, a19, a20, a21) (nI l) := by
  have K' := K
  obtain ⟨⟨h1, h3, w1, w4⟩, G, hL, hzo⟩ := K'
  have hl7 : l < 7 := by omega
  have hn := ec_len4 (l := l) h3 w4
  have h2 : 2 ^ ec_len h w l ≤ 2 ^ 4 := Nat.pow_le_pow_right (by omega) hn
  refine br_f (nI_pos (by omega)) (br_t (nI_lt hl (by omega)) ?_)
  refine ec_prepare K hr (fun b hb => ?_)
  refine ec_lineLength h3 hl7 ?_
  refine pk_loop (fun n i x => wX_lineWords_29 post (nI l) (nI (ec_len h w l)) (nI h) (nI w) (nI (h + w)) (nI (h * w)) fh fp 1 ff fu fa fo a1 a2 a3 a4 a5 a6 a7 a8 a9 a10 a11 a12 a13 a14 a15 a16 b a18 a19 a20 a21 n x (nI i)) (fun i x => x = nI (ec_ct (z l) (o l) (ec_len h w l) i)) (2 ^ ec_len h w l) 0 0 (Nat.zero_le _) rfl (fun n x hx => ?_) (fun n i x hi hx hw => ?_)
  · subst hx
    exact pk_le (2 ^ ec_len h w l) (2 ^ ec_len h w l) (fun _ => hp b hb) (fun z => absurd z (by omega)) (hx := ec_one _ (by omega))
  · subst hx
    refine pk_le (2 ^ ec_len h w l) i (fun z => absurd z (by omega)) (fun _ => ?_) (hx := ec_one _ (by omega))
    refine ec_spells K hb hl (by omega) ?_
    by_cases e : ec_ss (z l) (o l) (ec_len h w l) i (ec_len h w l) = 0
    · rw [if_pos e]
      refine br_t rfl (nm_r (nI_1 i) (hw _ ?_))
      show _ = nI (ec_ct (z l) (o l) (ec_len h w l) i + if ec_ss (z l) (o l) (ec_len h w l) i (ec_len h w l) = 0 then 0 else 1)
      rw [if_pos e, Nat.add_zero]
    · rw [if_neg e]
      refine br_f (by decide) (nm_r (nI_1 _) (nm_r (nI_1 i) (hw _ ?_)))
      show _ = nI (ec_ct (z l) (o l) (ec_len h w l) i + if ec_ss (z l) (o l) (ec_len h w l) i (ec_len h w l) = 0 then 0 else 1)
      rw [if_neg e]
end
section
def ec_y (z o : Nat → Nat) (v : Nat) (l : Nat) : Nat := if v = 0 then z l else o l
/-- whether cell d takes v -/
def ec_c (h w : Nat) (y : Nat → Nat) (d : Nat) : Nat := y (d / w) * y (h + d % w)
theorem ec_mul0 {a b : Nat} (hb : b ≤ 1) (h : a * b = 1) : a = 1 ∧ b = 1 := by
  rcases ec_01 hb with e | e
  · rw [e, Nat.mul_zero] at h
    omega
  · rw [e, Nat.mul_one] at h
    exact ⟨h, e⟩
theorem ec_pl114 {post : Int32 → St2 → Prop} {h w d v i j : Nat} {s : Int32} {z o : Nat → Nat} {fh fp fd ff fu fa fo : Int32} {a1 a2 a3 a4 a5 a6 a7 a8 a9 a10 a11 a12 a13 a14 a15 a16 a17 a18 a19 a20 a21 : Nat → Int32} (K : ec_K h w z o a1 a2 a3 a11 a12 a13 a14 a15 a16) (B : ec_bk h w a17) (hd : d < h * w) (hv : v < 2)
    (hi : i < h) (hj : j < w) (hs : s = 256 ∨ s = 1) (h0 : ec_y z o v (h + j) = 0 → post 0 ((nI h), (nI w), (nI (h + w)), (nI (h * w)), fh, fp, fd, ff, fu, fa, fo, a1, a2, a3, a4, a5, a6, a7, a8, a9, a10, a11, a12, a13, a14, a15, a16, a17, a18, a19, a20, a21))
    (h1 : ec_y z o v (h + j) = 1 → post 1 ((nI h), (nI w), (nI (h + w)), (nI (h * w)), fh, fp, fd, ff, fu, fa, fo, a1, a2, a3, a4, a5, a6, a7, a8, a9, a10, a11, a12, a13, a14, a15, a16, a17, (upd a18 d (nI v)), a19, (upd a20 d 1), (upd a21 d 1))) :
    wX_place_114 post (nI d) (nI v) (nI i) (nI j) 1 s (nI h) (nI w) (nI (h + w)) (nI (h * w)) fh fp fd ff fu fa fo a1 a2 a3 a4 a5 a6 a7 a8 a9 a10 a11 a12 a13 a14 a15 a16 a17 a18 a19 a20 a21 := by
  obtain ⟨⟨hh1, h3, w1, w4⟩, G, hL, hzo⟩ := K
  have hL := hL (h + j) (by omega)
  obtain ⟨hz, ho, hzo⟩ := hzo (h + j)
  have h12 := ec_hw h (by omega) w (by omega)
  have hbk := B (h + j) (by omega) (i + 1) (by rw [ec_len, if_neg (by omega)]; omega)
  have hy : ec_y z o v (h + j) ≤ 1 := by
    unfold ec_y
    split <;> omega
  unfold wX_place_114
  rw [nI_add]
  refine ec_step (by omega) hv hL hz ho hs ?_
  refine ⟨pk_in ((h + j) * 5 + (i + 1)) 35 (by omega) (ec_i51 (h + j) i), nm_r (e' := nI (ec_y z o v (h + j))) ?_ ?_⟩
  · rw [pk_cl _ (ec_i51 (h + j) i) (by omega), hbk]
    exact ec_a257 hy
  refine pk_eq (ec_y z o v (h + j)) 0 (fun e => h0 e) (fun e => ?_)
  have e1 : ec_y z o v (h + j) = 1 := by omega
  have hcl : (nI d).toNatClampNeg = d := nI_clamp (by omega)
  rw [hcl, e1]
  exact ⟨pk_in d 12 (by omega), nm_e ⟨pk_in d 12 (by omega), nm_e ⟨pk_in d 12 (by omega), nm_e (h1 e1)⟩⟩⟩
theorem ec_pl57 {post : Int32 → St2 → Prop} {h w d v i j : Nat} {s : Int32} {z o : Nat → Nat} {fh fp fd ff fu fa fo : Int32} {a1 a2 a3 a4 a5 a6 a7 a8 a9 a10 a11 a12 a13 a14 a15 a16 a17 a18 a19 a20 a21 : Nat → Int32} (K : ec_K h w z o a1 a2 a3 a11 a12 a13 a14 a15 a16) (B : ec_bk h w a17) (hd : d < h * w) (hv : v < 2)
    (hi : i < h) (hj : j < w) (hs : s = 256 ∨ s = 1) (hw : 0 < i → w ≤ d) (hc : ∀ q, q < d → a20 q = 1 ∧ a21 q = 1) (h0 : ec_y z o v i * ec_y z o v (h + j) = 0 → post 0 ((nI h), (nI w), (nI (h + w)), (nI (h * w)), fh, fp, fd, ff, fu, fa, fo, a1, a2, a3, a4, a5, a6, a7, a8, a9, a10, a11, a12, a13, a14, a15, a16, a17, a18, a19, a20, a21))
    (h1 : ec_y z o v i * ec_y z o v (h + j) = 1 → post 1 ((nI h), (nI w), (nI (h + w)), (nI (h * w)), fh, fp, fd, ff, fu, fa, fo, a1, a2, a3, a4, a5, a6, a7, a8, a9, a10, a11, a12, a13, a14, a15, a16, a17, (upd a18 d (nI v)), a19, (upd a20 d 1), (upd a21 d 1))) :
    wX_place_57 post (nI d) (nI v) (nI i) (nI j) s (nI h) (nI w) (nI (h + w)) (nI (h * w)) fh fp fd ff fu fa fo a1 a2 a3 a4 a5 a6 a7 a8 a9 a10 a11 a12 a13 a14 a15 a16 a17 a18 a19 a20 a21 := by
  have K' := K
  obtain ⟨⟨hh1, h3, w1, w4⟩, G, hL, hzo⟩ := K'
  have hL := hL i (by omega)
  obtain ⟨hz, ho, hzo⟩ := hzo i
  have h12 := ec_hw h (by omega) w (by omega)
  have hbk := B i (by omega) (j + 1) (by rw [ec_len, if_pos hi]; omega)
  have hy : ec_y z o v i ≤ 1 := by
    unfold ec_y
    split <;> omega
  unfold wX_place_57
  refine ec_step (by omega) hv hL hz ho hs ?_
  refine ⟨pk_in (i * 5 + (j + 1)) 35 (by omega) (ec_i51 i j), nm_r (e' := nI (ec_y z o v i)) ?_ ?_⟩
  · rw [pk_cl _ (ec_i51 i j) (by omega), hbk]
    exact ec_a257 hy
  refine pk_eq (ec_y z o v i) 0 (fun e => h0 (by rw [e, Nat.zero_mul])) (fun e => ?_)
  have e1 : ec_y z o v i = 1 := by omega
  rw [e1, Nat.one_mul] at h0 h1
  rw [e1]
  have go : ∀ s : Int32, (s = 256 ∨ s = 1) → wX_place_114 post (nI d) (nI v) (nI i) (nI j) 1 s (nI h) (nI w) (nI (h + w)) (nI (h * w)) fh fp fd ff fu fa fo a1 a2 a3 a4 a5 a6 a7 a8 a9 a10 a11 a12 a13 a14 a15 a16 a17 a18 a19 a20 a21 := fun s hs => ec_pl114 K B hd hv hi hj hs h0 h1
  refine pk_le i 0 (fun _ => go 256 (Or.inl rfl)) (fun e => ?_)
  have hwd := hw e
  have ex : nI d - nI w = nI (d - w) := pk_sub hwd
  refine ⟨pk_in (d - w) 12 (by omega) ex, nm_r (e' := 1) ?_ (go 1 (Or.inr rfl))⟩
  rw [pk_cl (d - w) ex (by omega)]
  exact (hc (d - w) (by omega)).2
theorem ec_place {post : Int32 → St2 → Prop} {h w d v : Nat} {z o : Nat → Nat} {fh fp fd ff fu fa fo : Int32} {a1 a2 a3 a4 a5 a6 a7 a8 a9 a10 a11 a12 a13 a14 a15 a16 a17 a18 a19 a20 a21 : Nat → Int32} (K : ec_K h w z o a1 a2 a3 a11 a12 a13 a14 a15 a16) (B : ec_bk h w a17) (hd : d < h * w) (hv : v < 2)
    (hc : ∀ q, q < d → a20 q = 1 ∧ a21 q = 1) (h0 : ec_c h w (ec_y z o v) d = 0 → post 0 ((nI h), (nI w), (nI (h + w)), (nI (h * w)), fh, fp, fd, ff, fu, fa, fo, a1, a2, a3, a4, a5, a6, a7, a8, a9, a10, a11, a12, a13, a14, a15, a16, a17, a18, a19, a20, a21))
    (h1 : ec_c h w (ec_y z o v) d = 1 → post 1 ((nI h), (nI w), (nI (h + w)), (nI (h * w)), fh, fp, fd, ff, fu, fa, fo, a1, a2, a3, a4, a5, a6, a7, a8, a9, a10, a11, a12, a13, a14, a15, a16, a17, (upd a18 d (nI v)), a19, (upd a20 d 1), (upd a21 d 1))) : wpX_place post ((nI h), (nI w), (nI (h + w)), (nI (h * w)), fh, fp, fd, ff, fu, fa, fo, a1, a2, a3, a4, a5, a6, a7, a8, a9, a10, a11, a12, a13, a14, a15, a16, a17, a18, a19, a20, a21) (nI d) (nI v) := by
  have K' := K
  obtain ⟨⟨hh1, h3, w1, w4⟩, G, hL, hzo⟩ := K'
  obtain ⟨g1, g2, g3⟩ := G d hd
  have h12 := ec_hw h (by omega) w (by omega)
  have hcl : (nI d).toNatClampNeg = d := nI_clamp (by omega)
  have hi : d / w < h := Nat.div_lt_of_lt_mul (by rw [Nat.mul_comm]; exact hd)
  have hj : d % w < w := Nat.mod_lt _ (by omega)
  have hwd : 0 < d / w → w ≤ d := by
    intro p
    rcases Nat.lt_or_ge d w with q | q
    · rw [Nat.div_eq_of_lt q] at p
      omega
    · exact q
  have go : ∀ s : Int32, (s = 256 ∨ s = 1) → wX_place_57 post (nI d) (nI v) (nI (d / w)) (nI (d % w)) s (nI h) (nI w) (nI (h + w)) (nI (h * w)) fh fp fd ff fu fa fo a1 a2 a3 a4 a5 a6 a7 a8 a9 a10 a11 a12 a13 a14 a15 a16 a17 a18 a19 a20 a21 := fun s hs => ec_pl57 K B hd hv hi hj hs hwd hc h0 h1
  refine ⟨pk_in d 12 (by omega), br_t (by rw [hcl, g3]) ?_⟩
  refine ⟨pk_in d 12 (by omega), nm_r (e' := nI (d / w)) (by rw [hcl, g1]) ⟨pk_in d 12 (by omega), nm_r (e' := nI (d % w)) (by rw [hcl, g2]) ?_⟩⟩
  refine pk_le (d % w) 0 (fun _ => go 256 (Or.inl rfl)) (fun e => ?_)
  have hd1 : 1 ≤ d := by
    rcases Nat.lt_or_ge d 1 with q | q
    · rw [show d = 0 by omega, Nat.zero_mod] at e
      omega
    · exact q
  refine ⟨pk_in (d - 1) 12 (by omega) (ec_p1 hd1), nm_r (e' := 1) ?_ (go 1 (Or.inr rfl))⟩
  rw [pk_cl (d - 1) (ec_p1 hd1) (by omega)]
  exact (hc (d - 1) (by omega)).1
theorem ec_enter {post : Int32 → St2 → Prop} {h w f N A O : Nat} {fh fp fd fu : Int32} {a1 a2 a3 a4 a5 a6 a7 a8 a9 a10 a11 a12 a13 a14 a15 a16 a17 a18 a19 a20 a21 : Nat → Int32} (hh : h ≤ 3) (hw : w ≤ 4) (hN : ec_nm a18 (h * w) = nI N) (hN' : N < 4096) (hf : f < 4096)
    (h1 : f + 1 = 4096 → post 1 ((nI h), (nI w), (nI (h + w)), (nI (h * w)), fh, fp, fd, (nI (f + 1)), (nI N), (nI (A &&& N)), (nI (O ||| N)), a1, a2, a3, a4, a5, a6, a7, a8, a9, a10, a11, a12, a13, a14, a15, a16, a17, a18, a19, a20, a21))
    (h0 : f + 1 ≠ 4096 → post 0 ((nI h), (nI w), (nI (h + w)), (nI (h * w)), fh, fp, fd, (nI (f + 1)), (nI N), (nI (A &&& N)), (nI (O ||| N)), a1, a2, a3, a4, a5, a6, a7, a8, a9, a10, a11, a12, a13, a14, a15, a16, a17, a18, a19, a20, a21)) : wpX_enter post ((nI h), (nI w), (nI (h + w)), (nI (h * w)), fh, fp, fd, (nI f), fu, (nI A), (nI O), a1, a2, a3, a4, a5, a6, a7, a8, a9, a10, a11, a12, a13, a14, a15, a16, a17, a18, a19, a20, a21) 4096 4096 := by
  have h12 := ec_hw h (by omega) w (by omega)
  refine pk_loop (fun n i x => wX_enter_5 post 4096 4096 (nI h) (nI w) (nI (h + w)) (nI (h * w)) fh fp fd (nI f) fu (nI A) (nI O) a1 a2 a3 a4 a5 a6 a7 a8 a9 a10 a11 a12 a13 a14 a15 a16 a17 a18 a19 a20 a21 n x (nI i)) (fun i x => x = ec_nm a18 i) (h * w) 0 0 (by omega) rfl (fun n x hx => ?_) (fun n i x hi hx hw => ?_)
  · subst hx
    refine pk_le (h * w) (h * w) (fun _ => ?_) (fun z => absurd z (by omega))
    rw [hN]
    refine pk_lt N 4096 (fun _ => ?_) (fun z => absurd z (by omega))
    exact nm_r (ec_and A N) (nm_r (ec_or O N) (nm_r (nI_1 f) (pk_eq (f + 1) 4096 h1 h0)))
  · subst hx
    refine pk_le (h * w) i (fun z => absurd z (by omega)) (fun _ => ⟨pk_in i 12 (by omega), nm_r (e' := ec_nm a18 (i + 1)) ?_ (nm_r (nI_1 i) (hw _ rfl))⟩)
    rw [nI_clamp (by omega)]
    rfl
end
section
theorem ec_sh0 (p k : Nat) : (2 * p + 0) * 2 ^ k = p * 2 ^ (k + 1) := by
  rw [Nat.add_zero, Nat.mul_comm 2 p, Nat.mul_assoc, Nat.pow_succ, Nat.mul_comm 2 (2 ^ k)]
theorem ec_sh1 (p k : Nat) : (2 * p + 1) * 2 ^ k = p * 2 ^ (k + 1) + 2 ^ k := by
  rw [Nat.add_mul, Nat.one_mul, ← ec_sh0, Nat.add_zero]
def ec_tA (cv A y : Nat) : Nat := if cv = 0 then A else A &&& y
def ec_tO (cv O y : Nat) : Nat := if cv = 0 then O else O ||| y
theorem ec_Ac (A p k x c0 c1 : Nat) (h0 : c0 ≤ 1) (h1 : c1 ≤ 1) (h : 1 ≤ c0 + c1) (hx : x < 2 ^ k) :
    ec_tA c1 (ec_tA c0 A ((2 * p + 0) * 2 ^ k + x)) ((2 * p + 1) * 2 ^ k + x) = A &&& (p * 2 ^ (k + 1) + ((1 - c0) * 2 ^ k + x)) := by
  rcases ec_01 h0 with e | e <;> rcases ec_01 h1 with e' | e' <;> subst e <;> subst e'
  · omega
  · show A &&& ((2 * p + 1) * 2 ^ k + x) = A &&& (p * 2 ^ (k + 1) + (1 * 2 ^ k + x))
    rw [ec_sh1, Nat.one_mul, Nat.add_assoc]
  · show A &&& ((2 * p + 0) * 2 ^ k + x) = A &&& (p * 2 ^ (k + 1) + (0 * 2 ^ k + x))
    rw [ec_sh0, Nat.zero_mul, Nat.zero_add]
  · show (A &&& ((2 * p + 0) * 2 ^ k + x)) &&& ((2 * p + 1) * 2 ^ k + x) = A &&& (p * 2 ^ (k + 1) + (0 * 2 ^ k + x))
    rw [Nat.and_assoc, ec_and2 p k x hx, ec_sh0, Nat.zero_mul, Nat.zero_add]
theorem ec_Oc (O p k x c0 c1 : Nat) (h0 : c0 ≤ 1) (h1 : c1 ≤ 1) (h : 1 ≤ c0 + c1) (hx : x < 2 ^ k) :
    ec_tO c1 (ec_tO c0 O ((2 * p + 0) * 2 ^ k + x)) ((2 * p + 1) * 2 ^ k + x) = O ||| (p * 2 ^ (k + 1) + (c1 * 2 ^ k + x)) := by
  rcases ec_01 h0 with e | e <;> rcases ec_01 h1 with e' | e' <;> subst e <;> subst e'
  · omega
  · show O ||| ((2 * p + 1) * 2 ^ k + x) = O ||| (p * 2 ^ (k + 1) + (1 * 2 ^ k + x))
    rw [ec_sh1, Nat.one_mul, Nat.add_assoc]
  · show O ||| ((2 * p + 0) * 2 ^ k + x) = O ||| (p * 2 ^ (k + 1) + (0 * 2 ^ k + x))
    rw [ec_sh0, Nat.zero_mul, Nat.zero_add]
  · show (O ||| ((2 * p + 0) * 2 ^ k + x)) ||| ((2 * p + 1) * 2 ^ k + x) = O ||| (p * 2 ^ (k + 1) + (1 * 2 ^ k + x))
    rw [Nat.or_assoc, ec_or2 p k x hx, ec_sh1, Nat.one_mul, Nat.add_assoc]
theorem ec_c01 {h w d : Nat} {y : Nat → Nat} (hy : ∀ l, y l ≤ 1) : ec_c h w y d ≤ 1 := by
  unfold ec_c
  exact Nat.le_trans (Nat.mul_le_mul (hy _) (hy _)) (Nat.le_refl 1)
/-- from cell d on with k cells left, nothing tried there: the search goes through all of them and comes back -/
def ec_Node (post : St2 → Prop) (h w : Nat) (c0 c1 : Nat → Nat) (fh fp : Int32) (a1 a2 a3 a4 a5 a6 a7 a8 a9 a10 a11 a12 a13 a14 a15 a16 a17 : Nat → Int32) (k d : Nat) : Prop :=
  ∀ (m f A O p rnd n : Nat) (fu : Int32) (a18 a19 a20 a21 : Nat → Int32), n = m + ec_rd c0 c1 k d → f < 4096 → f + ec_cn c0 c1 k d ≤ 4096 → p < 2 ^ d → rnd + ec_rd c0 c1 k d < 20000 →
    ec_nm a18 d = nI p → a19 d = 0 → (∀ q, q < d → a20 q = 1 ∧ a21 q = 1) →
    (f + ec_cn c0 c1 k d < 4096 → ∀ (fu : Int32) (b18 b19 b20 b21 : Nat → Int32), (∀ q, q < d → b18 q = a18 q) → (∀ q, q < d → b19 q = a19 q) → (∀ q, q < d → b20 q = 1 ∧ b21 q = 1) →
      wX_scan_49 post 4096 4096 m (nI d - 1) 0 (nI (rnd + ec_rd c0 c1 k d)) (nI h) (nI w) (nI (h + w)) (nI (h * w)) fh fp 1 (nI (f + ec_cn c0 c1 k d)) fu (nI (A &&& (p * 2 ^ k + ec_an c0 k d))) (nI (O ||| (p * 2 ^ k + ec_on c1 k d))) a1 a2 a3 a4 a5 a6 a7 a8 a9 a10 a11 a12 a13 a14 a15 a16 a17 b18 b19 b20 b21) →
    (f + ec_cn c0 c1 k d = 4096 → ∀ (fu : Int32) (b18 b19 b20 b21 : Nat → Int32),
      post ((nI h), (nI w), (nI (h + w)), (nI (h * w)), fh, fp, 1, (nI (f + ec_cn c0 c1 k d)), fu, (nI (A &&& (p * 2 ^ k + ec_an c0 k d))), (nI (O ||| (p * 2 ^ k + ec_on c1 k d))), a1, a2, a3, a4, a5, a6, a7, a8, a9, a10, a11, a12, a13, a14, a15, a16, a17, b18, b19, b20, b21)) →
    wX_scan_49 post 4096 4096 n (nI d) 0 (nI rnd) (nI h) (nI w) (nI (h + w)) (nI (h * w)) fh fp 1 (nI f) fu (nI A) (nI O) a1 a2 a3 a4 a5 a6 a7 a8 a9 a10 a11 a12 a13 a14 a15 a16 a17 a18 a19 a20 a21
theorem ec_try {post : St2 → Prop} {h w k d v m f A O p rnd n cv : Nat} {z o : Nat → Nat} {fh fp fu : Int32} {a1 a2 a3 a4 a5 a6 a7 a8 a9 a10 a11 a12 a13 a14 a15 a16 a17 a18 a19 a20 a21 : Nat → Int32} (K : ec_K h w z o a1 a2 a3 a11 a12 a13 a14 a15 a16) (B : ec_bk h w a17) (hd : d + (k + 1) = h * w) (hv : v < 2)
    (hch : 0 < k → ec_Node post h w (ec_c h w z) (ec_c h w o) fh fp a1 a2 a3 a4 a5 a6 a7 a8 a9 a10 a11 a12 a13 a14 a15 a16 a17 k (d + 1)) (hcv : ec_c h w (ec_y z o v) d = cv)
    (hm : 1 ≤ m) (hn : n = m + 1 + cv * ec_rd (ec_c h w z) (ec_c h w o) k (d + 1)) (hf : f < 4096) (hcn : f + cv * ec_cn (ec_c h w z) (ec_c h w o) k (d + 1) ≤ 4096) (hp : p < 2 ^ d)
    (hrd : rnd + 1 + cv * ec_rd (ec_c h w z) (ec_c h w o) k (d + 1) < 20000) (hnm : ec_nm a18 d = nI p) (ht : a19 d = nI v) (hs : ∀ q, q < d → a20 q = 1 ∧ a21 q = 1)
    (Hc : f + cv * ec_cn (ec_c h w z) (ec_c h w o) k (d + 1) < 4096 → ∀ (fu : Int32) (b18 b19 b20 b21 : Nat → Int32), (∀ q, q < d → b18 q = a18 q) → (∀ q, q < d → b19 q = a19 q) → b19 d = nI (v + 1) → (∀ q, q < d → b20 q = 1 ∧ b21 q = 1) →
      wX_scan_49 post 4096 4096 m (nI d) 0 (nI (rnd + 1 + cv * ec_rd (ec_c h w z) (ec_c h w o) k (d + 1))) (nI h) (nI w) (nI (h + w)) (nI (h * w)) fh fp 1 (nI (f + cv * ec_cn (ec_c h w z) (ec_c h w o) k (d + 1))) fu (nI (ec_tA cv A ((2 * p + v) * 2 ^ k + ec_an (ec_c h w z) k (d + 1)))) (nI (ec_tO cv O ((2 * p + v) * 2 ^ k + ec_on (ec_c h w o) k (d + 1)))) a1 a2 a3 a4 a5 a6 a7 a8 a9 a10 a11 a12 a13 a14 a15 a16 a17 b18 b19 b20 b21)
    (Hf : f + cv * ec_cn (ec_c h w z) (ec_c h w o) k (d + 1) = 4096 → ∀ (fu : Int32) (b18 b19 b20 b21 : Nat → Int32),
      post ((nI h), (nI w), (nI (h + w)), (nI (h * w)), fh, fp, 1, (nI (f + cv * ec_cn (ec_c h w z) (ec_c h w o) k (d + 1))), fu, (nI (ec_tA cv A ((2 * p + v) * 2 ^ k + ec_an (ec_c h w z) k (d + 1)))), (nI (ec_tO cv O ((2 * p + v) * 2 ^ k + ec_on (ec_c h w o) k (d + 1)))), a1, a2, a3, a4, a5, a6, a7, a8, a9, a10, a11, a12, a13, a14, a15, a16, a17, b18, b19, b20, b21)) :
    wX_scan_49 post 4096 4096 n (nI d) 0 (nI rnd) (nI h) (nI w) (nI (h + w)) (nI (h * w)) fh fp 1 (nI f) fu (nI A) (nI O) a1 a2 a3 a4 a5 a6 a7 a8 a9 a10 a11 a12 a13 a14 a15 a16 a17 a18 a19 a20 a21 := by
  have K' := K
  obtain ⟨⟨hh1, h3, w1, w4⟩, G, hL, hzo⟩ := K'
  have h12 := ec_hw h (by omega) w (by omega)
  have hcl : (nI d).toNatClampNeg = d := nI_clamp (by omega)
  have hpw : 2 ^ (d + 1) ≤ 2 ^ 12 := Nat.pow_le_pow_right (by omega) (by omega)
  have hN : 2 * p + v < 2 ^ (d + 1) := by
    rw [Nat.pow_succ]
    omega
  cases n with
  | zero => omega
  | succ n =>
    refine pk_le 20000 rnd (fun z => absurd z (by omega)) (fun _ => ?_)
    refine br_f (nI_pos (by omega)) (br_t rfl ⟨pk_in d 12 (by omega), nm_r (e' := nI v) (by rw [hcl, ht]) ?_⟩)
    refine pk_eq v 2 (fun z => absurd z (by omega)) (fun _ => ⟨pk_in d 12 (by omega), nm_r (e' := upd a19 d (nI (v + 1))) (by rw [hcl, nI_1]) ?_⟩)
    refine ec_place K B (by omega) hv hs (fun e => ?_) (fun e => ?_)
    · have e0 : cv = 0 := hcv.symm.trans e
      subst e0
      rw [Nat.zero_mul, Nat.add_zero] at hn Hc
      rw [Nat.zero_mul, Nat.add_zero] at Hc
      have hn' : n = m := by omega
      subst hn'
      exact br_t rfl (br_t rfl (nm_r (nI_1 rnd) (Hc hf fu a18 _ a20 a21 (fun _ _ => rfl) (fun q hq => pk_un (by omega)) pk_us hs)))
    · have e1 : cv = 1 := hcv.symm.trans e
      subst e1
      rw [Nat.one_mul] at hn hcn hrd
      simp only [Nat.one_mul] at Hc Hf
      refine br_f (by decide) ?_
      refine pk_eq d (h * w - 1) (fun e2 => ?_) (fun e2 => ?_) (hy := ec_p1 (by omega))
      · have hk : k = 0 := by omega
        subst hk
        have hA : ec_tA 1 A ((2 * p + v) * 2 ^ 0 + ec_an (ec_c h w z) 0 (d + 1)) = A &&& (2 * p + v) := by
          show A &&& ((2 * p + v) * 1 + 0) = _
          rw [Nat.mul_one, Nat.add_zero]
        have hO : ec_tO 1 O ((2 * p + v) * 2 ^ 0 + ec_on (ec_c h w o) 0 (d + 1)) = O ||| (2 * p + v) := by
          show O ||| ((2 * p + v) * 1 + 0) = _
          rw [Nat.mul_one, Nat.add_zero]
        rw [hA, hO] at Hc Hf
        have hn' : n = m := by
          have : ec_rd (ec_c h w z) (ec_c h w o) 0 (d + 1) = 0 := rfl
          omega
        subst hn'
        refine ec_enter (N := 2 * p + v) h3 w4 ?_ (by omega) hf (fun e3 => ?_) (fun e3 => ?_)
        · rw [show h * w = d + 1 by omega]
          exact ec_nm_s hnm
        · refine nm_r (nI_1 rnd) ?_
          cases n with
          | zero => omega
          | succ n => exact pk_le 20000 (rnd + 1) (fun z => absurd z (by omega)) (fun _ => br_f (nI_pos (by omega)) (br_f (by decide) (Hf e3 _ _ _ _ _)))
        · refine nm_r (nI_1 rnd) ?_
          exact Hc (by show f + 1 < 4096; omega) _ _ _ _ _ (fun q hq => pk_un (by omega)) (fun q hq => pk_un (by omega)) pk_us (fun q hq => ⟨by rw [pk_un (by omega)]; exact (hs q hq).1, by rw [pk_un (by omega)]; exact (hs q hq).2⟩)
      · refine br_f (by decide) (nm_r (nI_1 d) ⟨pk_in (d + 1) 12 (by omega), nm_r (e' := upd (upd a19 d (nI (v + 1))) (d + 1) 0) (by rw [nI_clamp (by omega)]) (nm_r (nI_1 rnd) ?_)⟩)
        refine hch (by omega) m f A O (2 * p + v) (rnd + 1) n _ _ _ _ _ (by omega) hf hcn hN (by omega) (ec_nm_s hnm) pk_us (fun q hq => ?_) (fun hlt fu b18 b19 b20 b21 e18 e19 e20 => ?_) Hf
        · by_cases eq : q = d
          · rw [eq, pk_us, pk_us]
            exact ⟨rfl, rfl⟩
          · rw [pk_un eq, pk_un eq]
            exact hs q (by omega)
        · rw [nI_pred]
          exact Hc hlt fu b18 b19 b20 b21 (fun q hq => by rw [e18 q (by omega), pk_un (by omega)]) (fun q hq => by rw [e19 q (by omega), pk_un (by omega), pk_un (by omega)]) (by rw [e19 d (by omega), pk_un (by omega), pk_us]) (fun q hq => e20 q (by omega))
theorem ec_node {post : St2 → Prop} {h w : Nat} {z o : Nat → Nat} {fh fp : Int32} {a1 a2 a3 a4 a5 a6 a7 a8 a9 a10 a11 a12 a13 a14 a15 a16 a17 : Nat → Int32} (K : ec_K h w z o a1 a2 a3 a11 a12 a13 a14 a15 a16) (B : ec_bk h w a17)
    (hc : ∀ d, 1 ≤ ec_c h w z d + ec_c h w o d) :
    ∀ k, 0 < k → ∀ d, d + k = h * w → ec_Node post h w (ec_c h w z) (ec_c h w o) fh fp a1 a2 a3 a4 a5 a6 a7 a8 a9 a10 a11 a12 a13 a14 a15 a16 a17 k d := by
  have K' := K
  obtain ⟨⟨hh1, h3, w1, w4⟩, G, hL, hzo⟩ := K'
  have h12 := ec_hw h (by omega) w (by omega)
  intro k
  induction k with
  | zero => exact fun z => absurd z (by omega)
  | succ k ih =>
    intro _ d hd
    have hch := fun (q : 0 < k) => ih q (d + 1) (by omega)
    have hcl : (nI d).toNatClampNeg = d := nI_clamp (by omega)
    have hX := ec_cn_pos (ec_c h w z) (ec_c h w o) hc k (d + 1)
    have hxa := ec_an_lt (ec_c h w z) k (d + 1)
    have hxo := ec_on_lt (ec_c h w o) (fun d => ec_c01 (fun l => (hzo l).2.1)) k (d + 1)
    have hc0 : ec_c h w z d ≤ 1 := ec_c01 (fun l => (hzo l).1)
    have hc1 : ec_c h w o d ≤ 1 := ec_c01 (fun l => (hzo l).2.1)
    have hcd := hc d
    have eR : ec_rd (ec_c h w z) (ec_c h w o) (k + 1) d = 3 + (ec_c h w z d * ec_rd (ec_c h w z) (ec_c h w o) k (d + 1) + ec_c h w o d * ec_rd (ec_c h w z) (ec_c h w o) k (d + 1)) := by
      rw [← Nat.add_mul]
      rfl
    have eX : ec_cn (ec_c h w z) (ec_c h w o) (k + 1) d = ec_c h w z d * ec_cn (ec_c h w z) (ec_c h w o) k (d + 1) + ec_c h w o d * ec_cn (ec_c h w z) (ec_c h w o) k (d + 1) := by
      rw [← Nat.add_mul]
      rfl
    intro m f A O p rnd n fu a18 a19 a20 a21 hn hf hcn hp hrd hnm ht hs Hc Hf
    have eA := ec_Ac A p k (ec_an (ec_c h w z) k (d + 1)) (ec_c h w z d) (ec_c h w o d) hc0 hc1 hcd hxa
    have eO := ec_Oc O p k (ec_on (ec_c h w o) k (d + 1)) (ec_c h w z d) (ec_c h w o d) hc0 hc1 hcd hxo
    have zA : ec_an (ec_c h w z) (k + 1) d = (1 - ec_c h w z d) * 2 ^ k + ec_an (ec_c h w z) k (d + 1) := rfl
    have zO : ec_on (ec_c h w o) (k + 1) d = ec_c h w o d * 2 ^ k + ec_on (ec_c h w o) k (d + 1) := rfl
    rw [zA, zO, ← eA, ← eO, eX] at Hc Hf
    rw [eR] at Hc hn hrd
    rw [eX] at hcn
    have p1 : ec_c h w o d = 1 → 1 ≤ ec_c h w o d * ec_cn (ec_c h w z) (ec_c h w o) k (d + 1) := fun e => by rw [e, Nat.one_mul]; exact hX
    have hv0 : ec_c h w (ec_y z o 0) d = ec_c h w z d := rfl
    have hv1 : ec_c h w (ec_y z o 1) d = ec_c h w o d := rfl
    have q1 : ec_c h w o d = 0 → ec_c h w o d * ec_cn (ec_c h w z) (ec_c h w o) k (d + 1) = 0 := fun e => by rw [e, Nat.zero_mul]
    obtain ⟨X0, eX0⟩ : ∃ x, ec_c h w z d * ec_cn (ec_c h w z) (ec_c h w o) k (d + 1) = x := ⟨_, rfl⟩
    obtain ⟨X1, eX1⟩ : ∃ x, ec_c h w o d * ec_cn (ec_c h w z) (ec_c h w o) k (d + 1) = x := ⟨_, rfl⟩
    obtain ⟨R0, eR0⟩ : ∃ x, ec_c h w z d * ec_rd (ec_c h w z) (ec_c h w o) k (d + 1) = x := ⟨_, rfl⟩
    obtain ⟨R1, eR1⟩ : ∃ x, ec_c h w o d * ec_rd (ec_c h w z) (ec_c h w o) k (d + 1) = x := ⟨_, rfl⟩
    rw [eX0, eX1] at Hc Hf hcn
    rw [eR0, eR1] at Hc hn hrd
    rw [eX1] at p1 q1
    refine ec_try (v := 0) (m := m + 2 + R1) (cv := ec_c h w z d) K B hd (by omega) hch hv0 (by omega) (by omega) hf (by omega) hp (by omega) hnm (by rw [ht]; rfl) hs ?_ ?_
    · rw [eX0, eR0]
      intro hlt fu b18 b19 b20 b21 e18 e19 e19' e20
      refine ec_try (v := 1) (m := m + 1) (cv := ec_c h w o d) K B hd (by omega) hch hv1 (by omega) (by omega) hlt (by omega) hp (by omega) ((ec_nm_c d e18).trans hnm) e19' e20 ?_ ?_
      · rw [eX1, eR1]
        intro hlt2 fu d18 d19 d20 d21 f18 f19 f19' f20
        refine pk_le 20000 (rnd + 1 + R0 + 1 + R1) (fun z => absurd z (by omega)) (fun _ => ?_)
        refine br_f (nI_pos (by omega)) (br_t rfl ⟨pk_in d 12 (by omega), nm_r (e' := nI 2) (by rw [hcl, f19']) ?_⟩)
        refine pk_eq 2 2 (fun _ => nm_r (ec_m1 (nI d)) (nm_r (nI_1 (rnd + 1 + R0 + 1 + R1)) ?_)) (fun z => absurd rfl z)
        have t := Hc (by omega) fu d18 d19 d20 d21 (fun q hq => by rw [f18 q hq, e18 q hq]) (fun q hq => by rw [f19 q hq, e19 q hq]) f20
        rw [show rnd + (3 + (R0 + R1)) = rnd + 1 + R0 + 1 + R1 + 1 by omega, ← Nat.add_assoc f X0 X1] at t
        exact t
      · rw [eX1]
        intro heq fu d18 d19 d20 d21
        have t := Hf (by omega) fu d18 d19 d20 d21
        rw [← Nat.add_assoc f X0 X1] at t
        exact t
    · rw [eX0]
      intro heq fu d18 d19 d20 d21
      have z1 : ec_c h w o d = 0 := by
        rcases ec_01 hc1 with e | e
        · exact e
        · have := p1 e
          omega
      have t := Hf (by have := q1 z1; omega) fu d18 d19 d20 d21
      rw [q1 z1, Nat.add_zero, z1] at t
      exact t
theorem ec_scan {post : St2 → Prop} {h w : Nat} {z o : Nat → Nat} {fh fp fd ff fu fa fo : Int32} {a1 a2 a3 a4 a5 a6 a7 a8 a9 a10 a11 a12 a13 a14 a15 a16 a17 a18 a19 a20 a21 : Nat → Int32} (K : ec_K h w z o a1 a2 a3 a11 a12 a13 a14 a15 a16) (hr : fd = 0 ∨ (fd = 1 ∧ ec_bk h w a17))
    (hc : ∀ d, 1 ≤ ec_c h w z d + ec_c h w o d) (hX : ec_cn (ec_c h w z) (ec_c h w o) (h * w) 0 ≤ 4096) (hR : ec_rd (ec_c h w z) (ec_c h w o) (h * w) 0 < 20000)
    (hp : ∀ b17, ec_bk h w b17 → ∀ (fu : Int32) (b18 b19 b20 b21 : Nat → Int32),
      post ((nI h), (nI w), (nI (h + w)), (nI (h * w)), fh, fp, 1, (nI (ec_cn (ec_c h w z) (ec_c h w o) (h * w) 0)), fu, (nI (4095 &&& ec_an (ec_c h w z) (h * w) 0)), (nI (ec_on (ec_c h w o) (h * w) 0)), a1, a2, a3, a4, a5, a6, a7, a8, a9, a10, a11, a12, a13, a14, a15, a16, b17, b18, b19, b20, b21)) :
    wpX_scan post ((nI h), (nI w), (nI (h + w)), (nI (h * w)), fh, fp, fd, ff, fu, fa, fo, a1, a2, a3, a4, a5, a6, a7, a8, a9, a10, a11, a12, a13, a14, a15, a16, a17, a18, a19, a20, a21) 4096 4096 := by
  have K' := K
  obtain ⟨⟨hh1, h3, w1, w4⟩, G, hL, hzo⟩ := K'
  have hpos : 0 < h * w := Nat.mul_pos (by omega) (by omega)
  unfold wpX_scan
  refine ec_prepare K hr (fun b17 hb => ?_)
  refine nm_e (br_t (by decide) ?_)
  have hp := hp b17 hb
  have N := ec_node (post := post) (fh := fh) (fp := fp) (a4 := a4) (a5 := a5) (a6 := a6) (a7 := a7) (a8 := a8) (a9 := a9) (a10 := a10) K hb hc (h * w) hpos 0 (by omega)
  have eA : 4095 &&& (0 * 2 ^ (h * w) + ec_an (ec_c h w z) (h * w) 0) = 4095 &&& ec_an (ec_c h w z) (h * w) 0 := by rw [Nat.zero_mul, Nat.zero_add]
  have eO : 0 ||| (0 * 2 ^ (h * w) + ec_on (ec_c h w o) (h * w) 0) = ec_on (ec_c h w o) (h * w) 0 := by rw [Nat.zero_mul, Nat.zero_add, Nat.zero_or]
  refine ⟨1 + ec_rd (ec_c h w z) (ec_c h w o) (h * w) 0, ?_⟩
  refine N 1 0 4095 0 0 0 _ _ _ _ _ _ rfl (by omega) (by omega) (by omega) (by omega) rfl pk_us (fun q hq => absurd hq (by omega)) ?_ ?_
  · rw [eA, eO, Nat.zero_add]
    intro _ fu b18 b19 b20 b21 _ _ _
    exact pk_le 20000 (0 + ec_rd (ec_c h w z) (ec_c h w o) (h * w) 0) (fun z => absurd z (by omega)) (fun _ => br_t (by decide) (hp fu b18 b19 b20 b21))
  · rw [eA, eO, Nat.zero_add]
    intro _ fu b18 b19 b20 b21
    exact hp fu b18 b19 b20 b21
end
section
theorem ec_any37 {post : St2 → Prop} {h w l : Nat} {fh fp fd ff fu fa fo : Int32} {a1 a2 a3 a4 a5 a6 a7 a8 a9 a10 a11 a12 a13 a14 a15 a16 a17 a18 a19 a20 a21 : Nat → Int32} (hl : l < 7)
    (hp : ∀ b, b (l * 8) = 1 → (∀ p, 1 ≤ p → p < 8 → b (l * 8 + p) = 0) → (∀ j, (j < l * 8 ∨ l * 8 + 8 ≤ j) → b j = a16 j) → post ((nI h), (nI w), (nI (h + w)), (nI (h * w)), fh, fp, 0, ff, fu, fa, fo, a1, a2, a3, a4, a5, a6, a7, a8, a9, a10, a11, a12, a13, a14, a15, b, a17, a18, a19, a20, a21)) : ∃ n, wX_anyWord_37 post (nI l) (nI h) (nI w) (nI (h + w)) (nI (h * w)) fh fp fd ff fu fa fo n 0 a1 a2 a3 a4 a5 a6 a7 a8 a9 a10 a11 a12 a13 a14 a15 a16 a17 a18 a19 a20 a21 := by
  refine pk_loop (fun n i s => wX_anyWord_37 post (nI l) (nI h) (nI w) (nI (h + w)) (nI (h * w)) fh fp fd ff fu fa fo n (nI i) a1 a2 a3 a4 a5 a6 a7 a8 a9 a10 a11 a12 a13 a14 a15 s a17 a18 a19 a20 a21) (fun i s => (∀ p, p < i → s (l * 8 + p) = 0) ∧ (∀ j, (j < l * 8 ∨ l * 8 + 8 ≤ j) → s j = a16 j)) 8 0 a16 (by omega) ⟨fun p hp => absurd hp (by omega), fun _ _ => rfl⟩ (fun n s hx => ?_) (fun n i s hi hx hw => ?_)
  · obtain ⟨s1, s2⟩ := hx
    refine pk_le 8 8 (fun _ => ⟨pk_in (l * 8) 56 (by omega) (ec_i80 l), nm_r (e' := upd s (l * 8) 1) (by rw [pk_cl (l * 8) (ec_i80 l) (by omega)]) ?_⟩) (fun z => absurd z (by omega))
    refine hp _ pk_us (fun p p1 p8 => ?_) (fun j hj => ?_)
    · rw [pk_un (by omega)]
      exact s1 p p8
    · rw [pk_un (by omega)]
      exact s2 j hj
  · obtain ⟨s1, s2⟩ := hx
    refine pk_le 8 i (fun z => absurd z (by omega)) (fun _ => ⟨pk_in (l * 8 + i) 56 (by omega) (ec_i8 l i), nm_r (e' := upd s (l * 8 + i) 0) (by rw [pk_cl (l * 8 + i) (ec_i8 l i) (by omega)]) (nm_r (nI_1 i) (hw _ ⟨fun p hp => ?_, fun j hj => ?_⟩))⟩)
    · by_cases e : p = i
      · rw [e, pk_us]
      · rw [pk_un (by omega)]
        exact s1 p (by omega)
    · rw [pk_un (by omega)]
      exact s2 j hj
theorem ec_anyWord {post : St2 → Prop} {h w l : Nat} {fh fp fd ff fu fa fo : Int32} {a1 a2 a3 a4 a5 a6 a7 a8 a9 a10 a11 a12 a13 a14 a15 a16 a17 a18 a19 a20 a21 : Nat → Int32} (hl : l < 7)
    (hp : ∀ b, b (l * 8) = 1 → (∀ p, 1 ≤ p → p < 8 → b (l * 8 + p) = 0) → (∀ j, (j < l * 8 ∨ l * 8 + 8 ≤ j) → b j = a16 j) → post ((nI h), (nI w), (nI (h + w)), (nI (h * w)), fh, fp, 0, ff, fu, fa, fo, a1, a2, a3, a4, a5, a6, a7, a8, a9, a10, (upd a11 l 1), (upd a12 l 1), (upd a13 l 1), (upd a14 l 1), (upd a15 l 1), b, a17, a18, a19, a20, a21)) :
    wpX_anyWord post ((nI h), (nI w), (nI (h + w)), (nI (h * w)), fh, fp, fd, ff, fu, fa, fo, a1, a2, a3, a4, a5, a6, a7, a8, a9, a10, a11, a12, a13, a14, a15, a16, a17, a18, a19, a20, a21) (nI l) := by
  have hcl : (nI l).toNatClampNeg = l := nI_clamp (by omega)
  unfold wpX_anyWord
  rw [hcl]
  exact ⟨pk_in l 7 hl, nm_e ⟨pk_in l 7 hl, nm_e ⟨pk_in l 7 hl, nm_e ⟨pk_in l 7 hl, nm_e ⟨pk_in l 7 hl, nm_e (ec_any37 hl hp)⟩⟩⟩⟩⟩
theorem ec_Lput {i l zl ol : Nat} {a11 a12 a13 a14 a15 a16 b11 b12 b13 b14 b15 b16 : Nat → Int32} (hi : i ≠ l) (hL : ec_L i zl ol a11 a12 a13 a14 a15 a16)
    (h11 : ∀ j, j ≠ l → b11 j = a11 j) (h12 : ∀ j, j ≠ l → b12 j = a12 j) (h13 : ∀ j, j ≠ l → b13 j = a13 j) (h14 : ∀ j, j ≠ l → b14 j = a14 j) (h15 : ∀ j, j ≠ l → b15 j = a15 j)
    (h16 : ∀ j, (j < l * 8 ∨ l * 8 + 8 ≤ j) → b16 j = a16 j) : ec_L i zl ol b11 b12 b13 b14 b15 b16 := by
  obtain ⟨k1, k2, k3, k4, k5, k6, k7⟩ := hL
  refine ⟨(h11 i hi).trans k1, (h12 i hi).trans k2, (h13 i hi).trans k3, (h14 i hi).trans k4, (h15 i hi).trans k5, (h16 _ (by omega)).trans k6, fun p p1 p8 => (h16 _ (by omega)).trans (k7 p p1 p8)⟩
theorem ec_Lany {l : Nat} {a11 a12 a13 a14 a15 b16 : Nat → Int32} (h1 : b16 (l * 8) = 1) (h2 : ∀ p, 1 ≤ p → p < 8 → b16 (l * 8 + p) = 0) :
    ec_L l 1 1 (upd a11 l 1) (upd a12 l 1) (upd a13 l 1) (upd a14 l 1) (upd a15 l 1) b16 := ⟨pk_us, pk_us, pk_us, pk_us, pk_us, h1, h2⟩
theorem ec_in302 {post : St2 → Prop} {mc ms kc ks h w : Nat} {fh fp ff fu fa fo : Int32} {a1 a2 a3 a4 a5 a6 a7 a8 a9 a10 a17 a18 a19 a20 a21 : Nat → Int32} (hh : h ≤ 3) (hw : w ≤ 4)
    (hp : ∀ a11 a12 a13 a14 a15 a16 : Nat → Int32, (∀ i, i < h + w → ec_L i 1 1 a11 a12 a13 a14 a15 a16) → post ((nI h), (nI w), (nI (h + w)), (nI (h * w)), fh, fp, 0, ff, fu, fa, fo, a1, a2, a3, a4, a5, a6, a7, a8, a9, a10, a11, a12, a13, a14, a15, a16, a17, a18, a19, a20, a21)) :
    ∀ k l, l + k = h + w → ∀ a11 a12 a13 a14 a15 a16 : Nat → Int32, (∀ i, i < l → ec_L i 1 1 a11 a12 a13 a14 a15 a16) → wX_init_302 post mc ms (nI h) (nI w) kc ks (k + 1) (nI l) (nI h) (nI w) (nI (h + w)) (nI (h * w)) fh fp 0 ff fu fa fo a1 a2 a3 a4 a5 a6 a7 a8 a9 a10 a11 a12 a13 a14 a15 a16 a17 a18 a19 a20 a21 := by
  intro k
  induction k with
  | zero =>
    intro l hl a11 a12 a13 a14 a15 a16 hL
    exact pk_le (h + w) l (fun _ => hp a11 a12 a13 a14 a15 a16 (fun i hi => hL i (by omega))) (fun z => absurd z (by omega)) (hx := nI_add h w)
  | succ k ih =>
    intro l hl a11 a12 a13 a14 a15 a16 hL
    refine pk_le (h + w) l (fun z => absurd z (by omega)) (fun _ => ?_) (hx := nI_add h w)
    refine ec_anyWord (by omega) (fun b b1 b2 b3 => ?_)
    refine nm_r (nI_1 l) (ih (l + 1) (by omega) _ _ _ _ _ _ (fun i hi => ?_))
    by_cases e : i = l
    · rw [e]
      exact ec_Lany b1 b2
    · exact ec_Lput e (hL i (by omega)) (fun j hj => pk_un hj) (fun j hj => pk_un hj) (fun j hj => pk_un hj) (fun j hj => pk_un hj) (fun j hj => pk_un hj) b3
/-- the cells below n stand in the tables -/
def ec_Gn (w n : Nat) (a1 a2 a3 : Nat → Int32) : Prop := ∀ d, d < n → a1 d = nI (d / w) ∧ a2 d = nI (d % w) ∧ a3 d = 2
theorem ec_Gput {w i j : Nat} {a1 a2 a3 : Nat → Int32} (hj : j < w) (G : ec_Gn w (i * w + j) a1 a2 a3) : ec_Gn w (i * w + (j + 1)) (upd a1 (i * w + j) (nI i)) (upd a2 (i * w + j) (nI j)) (upd a3 (i * w + j) 2) := by
  intro d hd
  by_cases e : d = i * w + j
  · rw [e, pk_us, pk_us, pk_us, Nat.mul_comm i w, Nat.mul_add_div (by omega), Nat.div_eq_of_lt hj, Nat.mul_add_mod, Nat.mod_eq_of_lt hj]
    exact ⟨rfl, rfl, rfl⟩
  · rw [pk_un e, pk_un e, pk_un e]
    exact G d (by omega)
theorem ec_in251 {post : St2 → Prop} {mc ms kc ks h w i : Nat} {J : Int32 → Int32 → (Nat → Int32) → (Nat → Int32) → (Nat → Int32) → (Nat → Int32) → (Nat → Int32) → (Nat → Int32) → (Nat → Int32) → (Nat → Int32) → (Nat → Int32) → (Nat → Int32) → (Nat → Int32) → (Nat → Int32) → (Nat → Int32) → (Nat → Int32) → (Nat → Int32) → (Nat → Int32) → (Nat → Int32) → (Nat → Int32) → (Nat → Int32) → (Nat → Int32) → (Nat → Int32) → Prop}
    {fh fp fd ff fu fa fo : Int32} {a1 a2 a3 a4 a5 a6 a7 a8 a9 a10 a11 a12 a13 a14 a15 a16 a17 a18 a19 a20 a21 : Nat → Int32} (hh : h ≤ 3) (hw : w ≤ 4) (hi : i < h) (G : ec_Gn w (i * w) a1 a2 a3)
    (hJ : ∀ b1 b2 b3, ec_Gn w ((i + 1) * w) b1 b2 b3 → J (nI ((i + 1) * w)) (nI (i + 1)) b1 b2 b3 a4 a5 a6 a7 a8 a9 a10 a11 a12 a13 a14 a15 a16 a17 a18 a19 a20 a21) : ∃ n, wX_init_251 post mc ms J (nI h) (nI w) (nI i) kc ks (nI h) (nI w) (nI (h + w)) (nI (h * w)) fh fp fd ff fu fa fo n (nI (i * w)) 0 a1 a2 a3 a4 a5 a6 a7 a8 a9 a10 a11 a12 a13 a14 a15 a16 a17 a18 a19 a20 a21 := by
  have h12 := ec_hw h (by omega) w (by omega)
  have hle : (i + 1) * w ≤ h * w := Nat.mul_le_mul_right w hi
  have hsm : (i + 1) * w = i * w + w := Nat.succ_mul i w
  refine pk_loop (σ := (Nat → Int32) × (Nat → Int32) × (Nat → Int32)) (fun n j s => wX_init_251 post mc ms J (nI h) (nI w) (nI i) kc ks (nI h) (nI w) (nI (h + w)) (nI (h * w)) fh fp fd ff fu fa fo n (nI (i * w + j)) (nI j) (s.1) (s.2.1) (s.2.2) a4 a5 a6 a7 a8 a9 a10 a11 a12 a13 a14 a15 a16 a17 a18 a19 a20 a21) (fun j s => ec_Gn w (i * w + j) s.1 s.2.1 s.2.2) w 0 (a1, a2, a3) (by omega) G (fun n s hx => ?_) (fun n j s hj hx hk => ?_)
  · refine pk_le w w (fun _ => nm_r (nI_1 i) ?_) (fun z => absurd z (by omega))
    rw [← hsm] at hx
    have t := hJ s.1 s.2.1 s.2.2 hx
    rw [hsm] at t
    exact t
  · have hcl : (nI (i * w + j)).toNatClampNeg = i * w + j := nI_clamp (by omega)
    refine pk_le w j (fun z => absurd z (by omega)) (fun _ => ?_)
    rw [hcl]
    exact ⟨pk_in (i * w + j) 12 (by omega), nm_e ⟨pk_in (i * w + j) 12 (by omega), nm_e ⟨pk_in (i * w + j) 12 (by omega), nm_e (nm_r (nI_1 (i * w + j)) (nm_r (nI_1 j) (hk (upd s.1 (i * w + j) (nI i), upd s.2.1 (i * w + j) (nI j), upd s.2.2 (i * w + j) 2) (ec_Gput hj hx))))⟩⟩⟩
theorem ec_in242 {post : St2 → Prop} {mc ms kc ks h w : Nat} {fh fp fd ff fu fa fo : Int32} {a1 a2 a3 a4 a5 a6 a7 a8 a9 a10 a11 a12 a13 a14 a15 a16 a17 a18 a19 a20 a21 : Nat → Int32} (hh : h ≤ 3) (hw : w ≤ 4)
    (hp : ∀ b1 b2 b3, ec_G h w b1 b2 b3 → ∃ n, wX_init_302 post mc ms (nI h) (nI w) kc ks n 0 (nI h) (nI w) (nI (h + w)) (nI (h * w)) fh fp fd ff fu fa fo b1 b2 b3 a4 a5 a6 a7 a8 a9 a10 a11 a12 a13 a14 a15 a16 a17 a18 a19 a20 a21) : ∃ n, wX_init_242 post mc ms (nI h) (nI w) kc ks (nI h) (nI w) (nI (h + w)) (nI (h * w)) fh fp fd ff fu fa fo n 0 0 a1 a2 a3 a4 a5 a6 a7 a8 a9 a10 a11 a12 a13 a14 a15 a16 a17 a18 a19 a20 a21 := by
  have t : ∃ n, wX_init_242 post mc ms (nI h) (nI w) kc ks (nI h) (nI w) (nI (h + w)) (nI (h * w)) fh fp fd ff fu fa fo n (nI (0 * w)) (nI 0) a1 a2 a3 a4 a5 a6 a7 a8 a9 a10 a11 a12 a13 a14 a15 a16 a17 a18 a19 a20 a21 := by
    refine pk_loop (σ := (Nat → Int32) × (Nat → Int32) × (Nat → Int32)) (fun n i s => wX_init_242 post mc ms (nI h) (nI w) kc ks (nI h) (nI w) (nI (h + w)) (nI (h * w)) fh fp fd ff fu fa fo n (nI (i * w)) (nI i) (s.1) (s.2.1) (s.2.2) a4 a5 a6 a7 a8 a9 a10 a11 a12 a13 a14 a15 a16 a17 a18 a19 a20 a21) (fun i s => ec_Gn w (i * w) s.1 s.2.1 s.2.2) h 0 (a1, a2, a3) (by omega) (fun d hd => absurd hd (by rw [Nat.zero_mul]; omega)) (fun n s hx => ?_) (fun n i s hi hx hk => ?_)
    · exact pk_le h h (fun _ => hp s.1 s.2.1 s.2.2 hx) (fun z => absurd z (by omega))
    · refine pk_le h i (fun z => absurd z (by omega)) (fun _ => ?_)
      exact ec_in251 hh hw hi hx (fun b1 b2 b3 hb => hk (b1, b2, b3) hb)
  rw [Nat.zero_mul] at t
  exact t
/-- p clamped to 1 .. M is h -/
def ec_cl (p : Int32) (M h : Nat) : Prop := 1 ≤ h ∧ h ≤ M ∧ ((1 ≤ p ∧ p ≤ nI M ∧ p = nI h) ∨ (¬ p ≤ nI M ∧ 1 ≤ p ∧ h = M) ∨ (¬ 1 ≤ p ∧ h = 1))
theorem ec_cl_ex (p : Int32) (M : Nat) (h1 : 1 ≤ M) (hM : M < 2 ^ 31) : ∃ h, ec_cl p M h := by
  by_cases g : (1 : Int32) ≤ p
  · by_cases g2 : p ≤ nI M
    · have hn : ¬ p < 0 := by
        intro c
        have c := Int32.lt_iff_toInt_lt.mp c
        have g := Int32.le_iff_toInt_le.mp g
        have e1 : (1 : Int32).toInt = 1 := by decide
        have e0 : (0 : Int32).toInt = 0 := by decide
        omega
      obtain ⟨j, hj, e⟩ := nI_of2 (nI_toInt hM) hn g2
      refine ⟨j, ?_, hj, Or.inl ⟨g, g2, e⟩⟩
      rcases Nat.lt_or_ge j 1 with q | q
      · rw [e, show j = 0 by omega] at g
        exact absurd g (by decide)
      · exact q
    · exact ⟨M, h1, Nat.le_refl M, Or.inr (Or.inl ⟨g2, g, rfl⟩)⟩
  · exact ⟨1, Nat.le_refl 1, h1, Or.inr (Or.inr ⟨g, rfl⟩)⟩
theorem ec_clA {P : Int32 → Prop} {p : Int32} {M h : Nat} (c : ec_cl p M h) (H : P (nI h)) : (1 ≤ p → ((p ≤ nI M → P p) ∧ (¬ p ≤ nI M → P (nI M)))) ∧ (¬ 1 ≤ p → P 1) := by
  obtain ⟨h1, hM, ⟨g, g2, e⟩ | ⟨g2, g, e⟩ | ⟨g, e⟩⟩ := c
  · rw [← e] at H
    exact br_t g (br_t g2 H)
  · rw [e] at H
    exact br_t g (br_f g2 H)
  · rw [e] at H
    exact br_f g H
theorem ec_clB {P : Int32 → Prop} {p : Int32} {M h : Nat} (c : ec_cl p M h) (hM : M < 2 ^ 31) (H : P (nI h)) :
    (1 ≤ p → ((p ≤ nI M → P p) ∧ (¬ p ≤ nI M → P (nI M)))) ∧ (¬ 1 ≤ p → (((1 : Int32) ≤ nI M → P 1) ∧ (¬ (1 : Int32) ≤ nI M → P (nI M)))) := by
  obtain ⟨h1, hM', ⟨g, g2, e⟩ | ⟨g2, g, e⟩ | ⟨g, e⟩⟩ := c
  · rw [← e] at H
    exact br_t g (br_t g2 H)
  · rw [e] at H
    exact br_t g (br_f g2 H)
  · rw [e] at H
    exact br_f g (br_t (nI_le (a := 1) (by omega) hM) H)
theorem ec_init {post : St2 → Prop} {p0 p1 : Int32} {h w : Nat} (c0 : ec_cl p0 3 h) (c1 : ec_cl p1 4 w)
    (hp : ∀ a1 a2 a3 a11 a12 a13 a14 a15 a16 : Nat → Int32, ec_K h w (fun _ => 1) (fun _ => 1) a1 a2 a3 a11 a12 a13 a14 a15 a16 →
      post ((nI h), (nI w), (nI (h + w)), (nI (h * w)), 0, 0, 0, 0, 0, 0, 0, a1, a2, a3, (fun _ => 0), (fun _ => 0), (fun _ => 0), (fun _ => 0), (fun _ => 0), (fun _ => 0), (fun _ => 0), a11, a12, a13, a14, a15, a16, (fun _ => 0), (fun _ => 0), (fun _ => 0), (fun _ => 0), (fun _ => 0))) :
    wpX_init post 21 258 (0, 0, 0, 0, 0, 0, 0, 0, 0, 0, 0) p0 p1 := by
  have go : wX_init_209 post 21 258 (nI h) (nI w) 21 258 0 0 0 0 0 0 0 0 0 0 0 (fun _ => 0) (fun _ => 0) (fun _ => 0) (fun _ => 0) (fun _ => 0) (fun _ => 0) (fun _ => 0) (fun _ => 0) (fun _ => 0) (fun _ => 0) (fun _ => 0) (fun _ => 0) (fun _ => 0) (fun _ => 0) (fun _ => 0) (fun _ => 0) (fun _ => 0) (fun _ => 0) (fun _ => 0) (fun _ => 0) (fun _ => 0) := by
    refine nm_r (nI_add h w) (nm_r (pk_mul h w) ?_)
    refine ec_in242 c0.2.1 c1.2.1 (fun b1 b2 b3 hG => ⟨_, ec_in302 c0.2.1 c1.2.1 (fun a11 a12 a13 a14 a15 a16 hL => ?_) (h + w) 0 (by omega) _ _ _ _ _ _ (fun i hi => absurd hi (by omega))⟩)
    exact hp b1 b2 b3 a11 a12 a13 a14 a15 a16 ⟨⟨c0.1, c0.2.1, c1.1, c1.2.1⟩, hG, hL, fun _ => ⟨Nat.le_refl 1, Nat.le_refl 1, Nat.le_add_left 1 1⟩⟩
  have go1 : wX_init_188 post 21 258 p1 (nI h) 21 258 0 0 0 0 0 0 0 0 0 0 0 (fun _ => 0) (fun _ => 0) (fun _ => 0) (fun _ => 0) (fun _ => 0) (fun _ => 0) (fun _ => 0) (fun _ => 0) (fun _ => 0) (fun _ => 0) (fun _ => 0) (fun _ => 0) (fun _ => 0) (fun _ => 0) (fun _ => 0) (fun _ => 0) (fun _ => 0) (fun _ => 0) (fun _ => 0) (fun _ => 0) (fun _ => 0) :=
    ec_clB (P := fun x => wX_init_209 post 21 258 (nI h) x 21 258 0 0 0 0 0 0 0 0 0 0 0 (fun _ => 0) (fun _ => 0) (fun _ => 0) (fun _ => 0) (fun _ => 0) (fun _ => 0) (fun _ => 0) (fun _ => 0) (fun _ => 0) (fun _ => 0) (fun _ => 0) (fun _ => 0) (fun _ => 0) (fun _ => 0) (fun _ => 0) (fun _ => 0) (fun _ => 0) (fun _ => 0) (fun _ => 0) (fun _ => 0) (fun _ => 0)) c1 (by decide) go
  refine ⟨by decide, by decide, by decide, by decide, by decide, by decide, by decide, by decide, by decide, by decide, by decide, by decide, by decide, by decide, by decide, by decide, by decide, by decide, by decide, by decide, by decide, by decide, by decide, by decide, by decide, by decide, by decide, by decide, by decide, by decide, by decide, by decide, by decide, by decide, by decide, by decide, by decide, by decide, by decide, by decide, by decide, by decide, ?_⟩
  exact ec_clB (P := fun x => wX_init_188 post 21 258 p1 x 21 258 0 0 0 0 0 0 0 0 0 0 0 (fun _ => 0) (fun _ => 0) (fun _ => 0) (fun _ => 0) (fun _ => 0) (fun _ => 0) (fun _ => 0) (fun _ => 0) (fun _ => 0) (fun _ => 0) (fun _ => 0) (fun _ => 0) (fun _ => 0) (fun _ => 0) (fun _ => 0) (fun _ => 0) (fun _ => 0) (fun _ => 0) (fun _ => 0) (fun _ => 0) (fun _ => 0)) c0 (by decide) go1
end
section
theorem ec_letter_bad {post : Int32 → St2 → Prop} {p0 : Int32} {h w : Nat} {fh fp fd ff fu fa fo : Int32} {a1 a2 a3 a4 a5 a6 a7 a8 a9 a10 a11 a12 a13 a14 a15 a16 a17 a18 a19 a20 a21 : Nat → Int32} (hb : p0 < 0 ∨ ¬ p0 ≤ 2) (hp : post (-1) ((nI h), (nI w), (nI (h + w)), (nI (h * w)), fh, fp, fd, ff, fu, fa, fo, a1, a2, a3, a4, a5, a6, a7, a8, a9, a10, a11, a12, a13, a14, a15, a16, a17, a18, a19, a20, a21)) : wpX_letter post ((nI h), (nI w), (nI (h + w)), (nI (h * w)), fh, fp, fd, ff, fu, fa, fo, a1, a2, a3, a4, a5, a6, a7, a8, a9, a10, a11, a12, a13, a14, a15, a16, a17, a18, a19, a20, a21) p0 := by
  by_cases e : p0 < 0
  · exact br_t e hp
  · exact br_f e (br_f (hb.resolve_left e) hp)
theorem ec_letter_ok {post : Int32 → St2 → Prop} {h w c : Nat} {fd ff fu fa fo : Int32} {a1 a2 a3 a4 a5 a6 a7 a8 a9 a10 a11 a12 a13 a14 a15 a16 a17 a18 a19 a20 a21 : Nat → Int32} (hc : c ≤ 2)
    (hp : ∀ b7, post 1 ((nI h), (nI w), (nI (h + w)), (nI (h * w)), 1, 1, fd, ff, fu, fa, fo, a1, a2, a3, (upd a4 0 0), (upd a5 0 1), (upd a6 0 1), b7, (upd a8 0 (nI c)), (upd a9 0 0), a10, a11, a12, a13, a14, a15, a16, a17, a18, a19, a20, a21)) : wpX_letter post ((nI h), (nI w), (nI (h + w)), (nI (h * w)), 0, 0, fd, ff, fu, fa, fo, a1, a2, a3, a4, a5, a6, a7, a8, a9, a10, a11, a12, a13, a14, a15, a16, a17, a18, a19, a20, a21) (nI c) := by
  refine br_f (nI_pos (by omega)) (br_t (nI_le hc (by decide)) (br_f (by decide) (br_f (by decide) (nm_r (e' := 1) (by decide) ?_))))
  refine ⟨pk_in 0 6 (by omega), nm_r (e' := upd a4 0 0) (by rw [sb_cl0]) ⟨pk_in 0 6 (by omega), nm_r (e' := upd a5 0 1) (by rw [sb_cl0]) ⟨pk_in 0 6 (by omega), nm_r (e' := upd a6 0 1) (by rw [sb_cl0]) ⟨pk_in 0 6 (by omega), nm_e (nm_r (e' := 1) (by decide) ?_)⟩⟩⟩⟩
  refine ⟨pk_in 0 8 (by omega), nm_r (e' := upd a8 0 (nI c)) (by rw [sb_cl0]) ⟨pk_in 0 8 (by omega), nm_r (e' := upd a9 0 0) (by rw [sb_cl0]) (nm_r (e' := 1) (by decide) ?_)⟩⟩
  exact hp _
theorem ec_link {post : St2 → Prop} {h w : Nat} {fh fp fd ff fu fa fo : Int32} {a1 a2 a3 a4 a5 a6 a7 a8 a9 a10 a11 a12 a13 a14 a15 a16 a17 a18 a19 a20 a21 : Nat → Int32} (hp : ∀ b9, b9 0 = a9 0 ||| 1 → post ((nI h), (nI w), (nI (h + w)), (nI (h * w)), fh, fp, fd, ff, fu, fa, fo, a1, a2, a3, a4, a5, a6, a7, a8, b9, a10, a11, a12, a13, a14, a15, a16, a17, a18, a19, a20, a21)) : wpX_link post ((nI h), (nI w), (nI (h + w)), (nI (h * w)), fh, fp, fd, ff, fu, fa, fo, a1, a2, a3, a4, a5, a6, a7, a8, a9, a10, a11, a12, a13, a14, a15, a16, a17, a18, a19, a20, a21) 1 1 := by
  refine pk_loop (fun n i s => wX_link_2 post 1 1 (nI h) (nI w) (nI (h + w)) (nI (h * w)) fh fp fd ff fu fa fo n (nI i) a1 a2 a3 a4 a5 a6 a7 a8 s a10 a11 a12 a13 a14 a15 a16 a17 a18 a19 a20 a21) (fun i s => s 0 = if i = 0 then a9 0 else a9 0 ||| 1) 8 0 a9 (by omega) rfl (fun n s hx => ?_) (fun n i s hi hx hw => ?_)
  · exact pk_le 8 8 (fun _ => hp s hx) (fun z => absurd z (by omega))
  · refine pk_le 8 i (fun z => absurd z (by omega)) (fun _ => ?_)
    by_cases e : i = 0
    · subst e
      refine br_t ((ec_s1 0 (by omega)).mpr rfl) ⟨pk_in 0 8 (by omega), pk_in 0 8 (by omega), nm_r (e' := upd s 0 (s 0 ||| 1)) (by rw [pk_cl 0 rfl (by omega)]) (nm_r (nI_1 0) (hw _ ?_))⟩
      rw [pk_us, hx]
      rfl
    · refine br_f (fun g => e ((ec_s1 i hi).mp g)) (nm_r (nI_1 i) (hw _ ?_))
      rw [hx, if_neg e, if_neg (by omega)]
theorem ec_star_no {post : Int32 → St2 → Prop} {h w : Nat} {fp fd ff fu fa fo : Int32} {a1 a2 a3 a4 a5 a6 a7 a8 a9 a10 a11 a12 a13 a14 a15 a16 a17 a18 a19 a20 a21 : Nat → Int32} (hp : post (-3) ((nI h), (nI w), (nI (h + w)), (nI (h * w)), 0, fp, fd, ff, fu, fa, fo, a1, a2, a3, a4, a5, a6, a7, a8, a9, a10, a11, a12, a13, a14, a15, a16, a17, a18, a19, a20, a21)) : wpX_star post ((nI h), (nI w), (nI (h + w)), (nI (h * w)), 0, fp, fd, ff, fu, fa, fo, a1, a2, a3, a4, a5, a6, a7, a8, a9, a10, a11, a12, a13, a14, a15, a16, a17, a18, a19, a20, a21) := br_f (by decide) hp
theorem ec_star_ok {post : Int32 → St2 → Prop} {h w : Nat} {fp fd ff fu fa fo : Int32} {a1 a2 a3 a4 a5 a6 a7 a8 a9 a10 a11 a12 a13 a14 a15 a16 a17 a18 a19 a20 a21 : Nat → Int32} (h5 : a5 0 = 1) (h6 : a6 0 = 1) (hp : ∀ b9, b9 0 = a9 0 ||| 1 → post 1 ((nI h), (nI w), (nI (h + w)), (nI (h * w)), 1, fp, fd, ff, fu, fa, fo, a1, a2, a3, a4, a5, a6, (upd a7 0 1), a8, b9, a10, a11, a12, a13, a14, a15, a16, a17, a18, a19, a20, a21)) : wpX_star post ((nI h), (nI w), (nI (h + w)), (nI (h * w)), 1, fp, fd, ff, fu, fa, fo, a1, a2, a3, a4, a5, a6, a7, a8, a9, a10, a11, a12, a13, a14, a15, a16, a17, a18, a19, a20, a21) := by
  refine br_t (by decide) (nm_r (e' := 0) (by decide) ⟨pk_in 0 6 (by omega), pk_in 0 6 (by omega), ?_⟩)
  rw [sb_cl0, h5, h6]
  refine ec_link (fun b9 hb => ?_)
  exact ⟨pk_in 0 6 (by omega), nm_e (hp b9 hb)⟩
theorem ec_set_bad {post : Int32 → St2 → Prop} {p0 : Int32} {h w : Nat} {fh fp fd ff fu fa fo : Int32} {a1 a2 a3 a4 a5 a6 a7 a8 a9 a10 a11 a12 a13 a14 a15 a16 a17 a18 a19 a20 a21 : Nat → Int32} (hb : p0 < 0 ∨ ¬ p0 < nI (h + w)) (hp : post (-1) ((nI h), (nI w), (nI (h + w)), (nI (h * w)), fh, fp, fd, ff, fu, fa, fo, a1, a2, a3, a4, a5, a6, a7, a8, a9, a10, a11, a12, a13, a14, a15, a16, a17, a18, a19, a20, a21)) : wpX_setLine post ((nI h), (nI w), (nI (h + w)), (nI (h * w)), fh, fp, fd, ff, fu, fa, fo, a1, a2, a3, a4, a5, a6, a7, a8, a9, a10, a11, a12, a13, a14, a15, a16, a17, a18, a19, a20, a21) p0 := by
  by_cases e : p0 < 0
  · exact br_t e hp
  · exact br_f e (br_f (hb.resolve_left e) hp)
theorem ec_set_few {post : Int32 → St2 → Prop} {h w l : Nat} {fp fd ff fu fa fo : Int32} {a1 a2 a3 a4 a5 a6 a7 a8 a9 a10 a11 a12 a13 a14 a15 a16 a17 a18 a19 a20 a21 : Nat → Int32} (hh : h ≤ 3) (hw : w ≤ 4) (hl : l < h + w) (hp : post (-3) ((nI h), (nI w), (nI (h + w)), (nI (h * w)), 0, fp, fd, ff, fu, fa, fo, a1, a2, a3, a4, a5, a6, a7, a8, a9, a10, a11, a12, a13, a14, a15, a16, a17, a18, a19, a20, a21)) : wpX_setLine post ((nI h), (nI w), (nI (h + w)), (nI (h * w)), 0, fp, fd, ff, fu, fa, fo, a1, a2, a3, a4, a5, a6, a7, a8, a9, a10, a11, a12, a13, a14, a15, a16, a17, a18, a19, a20, a21) (nI l) :=
  br_f (nI_pos (by omega)) (br_t (nI_lt hl (by omega)) (br_f (by decide) hp))
theorem ec_set164 {post : Int32 → St2 → Prop} {h w l : Nat} {fd ff fu fa fo : Int32} {a1 a2 a3 a4 a5 a6 a7 a8 a9 a10 a11 a12 a13 a14 a15 a16 a17 a18 a19 a20 a21 : Nat → Int32} (hl : l < 7) (h9 : a9 0 = 1) (hp : post 0 ((nI h), (nI w), (nI (h + w)), (nI (h * w)), 0, 0, 0, ff, fu, fa, fo, a1, a2, a3, a4, a5, a6, a7, a8, a9, a10, a11, a12, a13, a14, a15, (upd a16 (l * 8) 1), a17, a18, a19, a20, a21)) :
    wX_setLine_164 post (wX_setLine_96 post (nI l) 0 0 (nI h) (nI w) (nI (h + w)) (nI (h * w)) 1 1 fd ff fu fa fo 1) (nI l) 0 0 0 (nI h) (nI w) (nI (h + w)) (nI (h * w)) 1 1 fd ff fu fa fo a1 a2 a3 a4 a5 a6 a7 a8 a9 a10 a11 a12 a13 a14 a15 a16 a17 a18 a19 a20 a21 := by
  have ex : nI l * 8 + 0 - 0 = nI (l * 8) := by rw [Int32.add_zero, Int32.sub_zero, ec_i80]
  refine ⟨pk_in 0 8 (by omega), pk_in (l * 8) 56 (by omega) ex, nm_r (e' := upd a16 (l * 8) 1) ?_ (nm_r (e' := 1) (by decide) (br_t (by decide) hp))⟩
  rw [pk_cl (l * 8) ex (by omega), sb_cl0, h9]
  rfl
theorem ec_set139 {post : Int32 → St2 → Prop} {h w l c : Nat} {fd ff fu fa fo : Int32} {a1 a2 a3 a4 a5 a6 a7 a8 a9 a10 a11 a12 a13 a14 a15 a16 a17 a18 a19 a20 a21 : Nat → Int32} (hl : l < 7) (hc : c ≤ 2) (h8 : a8 0 = nI c) (h9 : a9 0 = 1) (h15 : a15 l = 0)
    (hp : ∀ b15, b15 l = nI (if c = 0 then 0 else 1) → (∀ j, j ≠ l → b15 j = a15 j) → post 0 ((nI h), (nI w), (nI (h + w)), (nI (h * w)), 0, 0, 0, ff, fu, fa, fo, a1, a2, a3, a4, a5, a6, a7, a8, a9, a10, a11, a12, a13, a14, b15, (upd a16 (l * 8) 1), a17, a18, a19, a20, a21)) :
    wX_setLine_139 post (wX_setLine_96 post (nI l) 0 0 (nI h) (nI w) (nI (h + w)) (nI (h * w)) 1 1 fd ff fu fa fo 1) (nI l) 0 0 0 1 (nI h) (nI w) (nI (h + w)) (nI (h * w)) 1 1 fd ff fu fa fo a1 a2 a3 a4 a5 a6 a7 a8 a9 a10 a11 a12 a13 a14 a15 a16 a17 a18 a19 a20 a21 := by
  have hcl : (nI l).toNatClampNeg = l := nI_clamp (by omega)
  refine ⟨pk_in 0 8 (by omega), ?_⟩
  rw [sb_cl0, h8]
  refine pk_eq c 0 (fun e => ?_) (fun e => ?_)
  · refine ec_set164 hl h9 (hp a15 ?_ (fun _ _ => rfl))
    rw [if_pos e, h15]
    rfl
  · refine ⟨pk_in l 7 hl, pk_in l 7 hl, nm_r (e' := upd a15 l 1) (by rw [hcl, h15]; rfl) ?_⟩
    refine ec_set164 hl h9 (hp _ ?_ (fun j hj => pk_un hj))
    rw [if_neg e, pk_us]
    rfl
theorem ec_set_ok {post : Int32 → St2 → Prop} {h w l c : Nat} {fd ff fu fa fo : Int32} {a1 a2 a3 a4 a5 a6 a7 a8 a9 a10 a11 a12 a13 a14 a15 a16 a17 a18 a19 a20 a21 : Nat → Int32} (hh : h ≤ 3) (hw : w ≤ 4) (hl : l < h + w) (hc : c ≤ 2)
    (h4 : a4 0 = 0) (h5 : a5 0 = 1) (h6 : a6 0 = 1) (h7 : a7 0 = 1) (h8 : a8 0 = nI c) (h9 : a9 0 = 1)
    (hp : ∀ b14 b15, b14 l = nI (if c = 1 then 0 else 1) → (∀ j, j ≠ l → b14 j = a14 j) → b15 l = nI (if c = 0 then 0 else 1) → (∀ j, j ≠ l → b15 j = a15 j) →
      post 0 ((nI h), (nI w), (nI (h + w)), (nI (h * w)), 0, 0, 0, ff, fu, fa, fo, a1, a2, a3, a4, a5, a6, a7, a8, a9, a10, (upd a11 l 1), (upd a12 l 1), (upd a13 l 1), b14, b15, (upd a16 (l * 8) 1), a17, a18, a19, a20, a21)) : wpX_setLine post ((nI h), (nI w), (nI (h + w)), (nI (h * w)), 1, 1, fd, ff, fu, fa, fo, a1, a2, a3, a4, a5, a6, a7, a8, a9, a10, a11, a12, a13, a14, a15, a16, a17, a18, a19, a20, a21) (nI l) := by
  have hcl : (nI l).toNatClampNeg = l := nI_clamp (by omega)
  have hl7 : l < 7 := by omega
  refine br_f (nI_pos (by omega)) (br_t (nI_lt hl (by omega)) (br_t (by decide) (nm_r (e' := 0) (by decide) ⟨pk_in 0 6 (by omega), nm_r (e' := 0) (by rw [sb_cl0, h4]) ?_⟩)))
  refine ⟨pk_in 0 6 (by omega), pk_in l 7 hl7, nm_r (e' := upd a11 l 1) (by rw [hcl, sb_cl0, h5]; rfl) ?_⟩
  refine ⟨pk_in 0 6 (by omega), pk_in l 7 hl7, nm_r (e' := upd a12 l 1) (by rw [hcl, sb_cl0, h6]; rfl) ?_⟩
  refine ⟨pk_in 0 6 (by omega), pk_in l 7 hl7, nm_r (e' := upd a13 l 1) (by rw [hcl, sb_cl0, h7]; rfl) ?_⟩
  refine ⟨pk_in l 7 hl7, nm_r (e' := upd a14 l 0) (by rw [hcl]) ⟨pk_in l 7 hl7, nm_r (e' := upd a15 l 0) (by rw [hcl]) ⟨2, ?_⟩⟩⟩
  refine br_f (by decide) (nm_r (e' := 1) (by decide) ⟨pk_in 0 8 (by omega), ?_⟩)
  rw [sb_cl0, h8]
  have u15 : ∀ (b15 : Nat → Int32), (∀ j, j ≠ l → b15 j = upd a15 l 0 j) → ∀ j, j ≠ l → b15 j = a15 j := fun b15 hb j hj => (hb j hj).trans (pk_un hj)
  refine pk_eq c 1 (fun e => ?_) (fun e => ?_)
  · refine ec_set139 hl7 hc h8 h9 pk_us (fun b15 b1 b2 => hp _ b15 ?_ (fun j hj => pk_un hj) b1 (u15 b15 b2))
    rw [if_pos e, pk_us]
    rfl
  · refine ⟨pk_in l 7 hl7, pk_in l 7 hl7, nm_r (e' := upd (upd a14 l 0) l 1) (by rw [hcl, pk_us]; rfl) ?_⟩
    refine ec_set139 hl7 hc h8 h9 pk_us (fun b15 b1 b2 => hp _ b15 ?_ (fun j hj => (pk_un hj).trans (pk_un hj)) b1 (u15 b15 b2))
    rw [if_neg e, pk_us]
    rfl
theorem ec_free_bad {post : Int32 → St2 → Prop} {p0 : Int32} {h w : Nat} {fh fp fd ff fu fa fo : Int32} {a1 a2 a3 a4 a5 a6 a7 a8 a9 a10 a11 a12 a13 a14 a15 a16 a17 a18 a19 a20 a21 : Nat → Int32} (hb : p0 < 0 ∨ ¬ p0 < nI (h + w)) (hp : post (-1) ((nI h), (nI w), (nI (h + w)), (nI (h * w)), fh, fp, fd, ff, fu, fa, fo, a1, a2, a3, a4, a5, a6, a7, a8, a9, a10, a11, a12, a13, a14, a15, a16, a17, a18, a19, a20, a21)) : wpX_freeLine post ((nI h), (nI w), (nI (h + w)), (nI (h * w)), fh, fp, fd, ff, fu, fa, fo, a1, a2, a3, a4, a5, a6, a7, a8, a9, a10, a11, a12, a13, a14, a15, a16, a17, a18, a19, a20, a21) p0 := by
  by_cases e : p0 < 0
  · exact br_t e hp
  · exact br_f e (br_f (hb.resolve_left e) hp)
theorem ec_free_ok {post : Int32 → St2 → Prop} {h w l : Nat} {fh fp fd ff fu fa fo : Int32} {a1 a2 a3 a4 a5 a6 a7 a8 a9 a10 a11 a12 a13 a14 a15 a16 a17 a18 a19 a20 a21 : Nat → Int32} (hh : h ≤ 3) (hw : w ≤ 4) (hl : l < h + w)
    (hp : ∀ b, b (l * 8) = 1 → (∀ p, 1 ≤ p → p < 8 → b (l * 8 + p) = 0) → (∀ j, (j < l * 8 ∨ l * 8 + 8 ≤ j) → b j = a16 j) → post 0 ((nI h), (nI w), (nI (h + w)), (nI (h * w)), fh, fp, 0, ff, fu, fa, fo, a1, a2, a3, a4, a5, a6, a7, a8, a9, a10, (upd a11 l 1), (upd a12 l 1), (upd a13 l 1), (upd a14 l 1), (upd a15 l 1), b, a17, a18, a19, a20, a21)) :
    wpX_freeLine post ((nI h), (nI w), (nI (h + w)), (nI (h * w)), fh, fp, fd, ff, fu, fa, fo, a1, a2, a3, a4, a5, a6, a7, a8, a9, a10, a11, a12, a13, a14, a15, a16, a17, a18, a19, a20, a21) (nI l) := by
  refine br_f (nI_pos (by omega)) (br_t (nI_lt hl (by omega)) ?_)
  exact ec_anyWord (by omega) hp
theorem ec_words_bad {post : Int32 → St2 → Prop} {p0 : Int32} {h w : Nat} {fh fp fd ff fu fa fo : Int32} {a1 a2 a3 a4 a5 a6 a7 a8 a9 a10 a11 a12 a13 a14 a15 a16 a17 a18 a19 a20 a21 : Nat → Int32} (hb : p0 < 0 ∨ ¬ p0 < nI (h + w)) (hp : post (-1) ((nI h), (nI w), (nI (h + w)), (nI (h * w)), fh, fp, fd, ff, fu, fa, fo, a1, a2, a3, a4, a5, a6, a7, a8, a9, a10, a11, a12, a13, a14, a15, a16, a17, a18, a19, a20, a21)) : wpX_lineWords post ((nI h), (nI w), (nI (h + w)), (nI (h * w)), fh, fp, fd, ff, fu, fa, fo, a1, a2, a3, a4, a5, a6, a7, a8, a9, a10, a11, a12, a13, a14, a15, a16, a17, a18, a19, a20, a21) p0 := by
  by_cases e : p0 < 0
  · exact br_t e hp
  · exact br_f e (br_f (hb.resolve_left e) hp)
theorem ec_inGrid_no {post : Int32 → Prop} {x4 x5 : Int32} {h w : Nat} {fh fp fd ff fu fa fo : Int32} {a1 a2 a3 a4 a5 a6 a7 a8 a9 a10 a11 a12 a13 a14 a15 a16 a17 a18 a19 a20 a21 : Nat → Int32} (hb : x4 < 0 ∨ nI h ≤ x4 ∨ x5 < 0 ∨ nI w ≤ x5) (hp : post 0) : wpX_inGrid post ((nI h), (nI w), (nI (h + w)), (nI (h * w)), fh, fp, fd, ff, fu, fa, fo, a1, a2, a3, a4, a5, a6, a7, a8, a9, a10, a11, a12, a13, a14, a15, a16, a17, a18, a19, a20, a21) x4 x5 := by
  by_cases e1 : x4 < 0
  · exact br_t e1 hp
  · by_cases e2 : nI h ≤ x4
    · exact br_f e1 (br_t e2 hp)
    · by_cases e3 : x5 < 0
      · exact br_f e1 (br_f e2 (br_t e3 hp))
      · exact br_f e1 (br_f e2 (br_f e3 (br_t (((hb.resolve_left e1).resolve_left e2).resolve_left e3) hp)))
theorem ec_fillings {post : Int32 → St2 → Prop} {h w : Nat} {z o : Nat → Nat} {fh fp fd ff fu fa fo : Int32} {a1 a2 a3 a4 a5 a6 a7 a8 a9 a10 a11 a12 a13 a14 a15 a16 a17 a18 a19 a20 a21 : Nat → Int32} (K : ec_K h w z o a1 a2 a3 a11 a12 a13 a14 a15 a16) (hr : fd = 0 ∨ (fd = 1 ∧ ec_bk h w a17))
    (hc : ∀ d, 1 ≤ ec_c h w z d + ec_c h w o d) (hX : ec_cn (ec_c h w z) (ec_c h w o) (h * w) 0 ≤ 4096) (hR : ec_rd (ec_c h w z) (ec_c h w o) (h * w) 0 < 20000)
    (hp : ∀ (ff fu fa fo : Int32) b17, ec_bk h w b17 → ∀ (b18 b19 b20 b21 : Nat → Int32), post (nI (ec_cn (ec_c h w z) (ec_c h w o) (h * w) 0)) ((nI h), (nI w), (nI (h + w)), (nI (h * w)), fh, fp, 1, ff, fu, fa, fo, a1, a2, a3, a4, a5, a6, a7, a8, a9, a10, a11, a12, a13, a14, a15, a16, b17, b18, b19, b20, b21)) : wpX_fillings post ((nI h), (nI w), (nI (h + w)), (nI (h * w)), fh, fp, fd, ff, fu, fa, fo, a1, a2, a3, a4, a5, a6, a7, a8, a9, a10, a11, a12, a13, a14, a15, a16, a17, a18, a19, a20, a21) := by
  unfold wpX_fillings
  exact ec_scan K hr hc hX hR (fun b17 hb fu b18 b19 b20 b21 => hp _ fu _ _ b17 hb b18 b19 b20 b21)
/-- what forced answers -/
def ec_fo (A O b : Nat) : Nat := if A / 2 ^ b % 2 = 1 then 1 else if O / 2 ^ b % 2 = 1 then 2 else 0
theorem ec_forced_no {post : Int32 → St2 → Prop} {x4 x5 : Int32} {h w : Nat} {fh fp fd ff fu fa fo : Int32} {a1 a2 a3 a4 a5 a6 a7 a8 a9 a10 a11 a12 a13 a14 a15 a16 a17 a18 a19 a20 a21 : Nat → Int32} (hb : x4 < 0 ∨ nI h ≤ x4 ∨ x5 < 0 ∨ nI w ≤ x5) (hp : post (-1) ((nI h), (nI w), (nI (h + w)), (nI (h * w)), fh, fp, fd, ff, fu, fa, fo, a1, a2, a3, a4, a5, a6, a7, a8, a9, a10, a11, a12, a13, a14, a15, a16, a17, a18, a19, a20, a21)) : wpX_forced post ((nI h), (nI w), (nI (h + w)), (nI (h * w)), fh, fp, fd, ff, fu, fa, fo, a1, a2, a3, a4, a5, a6, a7, a8, a9, a10, a11, a12, a13, a14, a15, a16, a17, a18, a19, a20, a21) x4 x5 := by
  unfold wpX_forced
  exact ec_inGrid_no hb (br_t rfl hp)
theorem ec_forced_ok {post : Int32 → St2 → Prop} {h w r c : Nat} {z o : Nat → Nat} {fh fp fd ff fu fa fo : Int32} {a1 a2 a3 a4 a5 a6 a7 a8 a9 a10 a11 a12 a13 a14 a15 a16 a17 a18 a19 a20 a21 : Nat → Int32} (K : ec_K h w z o a1 a2 a3 a11 a12 a13 a14 a15 a16) (hr : fd = 0 ∨ (fd = 1 ∧ ec_bk h w a17))
    (hc : ∀ d, 1 ≤ ec_c h w z d + ec_c h w o d) (hX : ec_cn (ec_c h w z) (ec_c h w o) (h * w) 0 ≤ 4096) (hR : ec_rd (ec_c h w z) (ec_c h w o) (h * w) 0 < 20000) (hrh : r < h) (hcw : c < w)
    (hp : ∀ (ff fu fa fo : Int32) b17, ec_bk h w b17 → ∀ (b18 b19 b20 b21 : Nat → Int32), post (nI (ec_fo (4095 &&& ec_an (ec_c h w z) (h * w) 0) (ec_on (ec_c h w o) (h * w) 0) (h * w - 1 - r * w - c))) ((nI h), (nI w), (nI (h + w)), (nI (h * w)), fh, fp, 1, ff, fu, fa, fo, a1, a2, a3, a4, a5, a6, a7, a8, a9, a10, a11, a12, a13, a14, a15, a16, b17, b18, b19, b20, b21)) :
    wpX_forced post ((nI h), (nI w), (nI (h + w)), (nI (h * w)), fh, fp, fd, ff, fu, fa, fo, a1, a2, a3, a4, a5, a6, a7, a8, a9, a10, a11, a12, a13, a14, a15, a16, a17, a18, a19, a20, a21) (nI r) (nI c) := by
  have K' := K
  obtain ⟨⟨hh1, h3, w1, w4⟩, G, hL, hzo⟩ := K'
  have h12 := ec_hw h (by omega) w (by omega)
  have hle : (r + 1) * w ≤ h * w := Nat.mul_le_mul_right w hrh
  have hsm : (r + 1) * w = r * w + w := Nat.succ_mul r w
  have hpos := ec_cn_pos (ec_c h w z) (ec_c h w o) hc (h * w) 0
  have hA : 4095 &&& ec_an (ec_c h w z) (h * w) 0 < 2 ^ 31 := Nat.lt_of_le_of_lt Nat.and_le_left (by omega)
  have hO : ec_on (ec_c h w o) (h * w) 0 < 2 ^ 31 := Nat.lt_of_lt_of_le (ec_on_lt (ec_c h w o) (fun d => ec_c01 (fun l => (hzo l).2.1)) (h * w) 0) (Nat.pow_le_pow_right (by omega) (by omega))
  have hx : nI (h * w) - 1 - nI r * nI w - nI c = nI (h * w - 1 - r * w - c) := by
    rw [ec_p1 (by omega), pk_mul, pk_sub (by omega), pk_sub (by omega)]
  unfold wpX_forced
  refine br_f (nI_pos (by omega)) (br_f (nI_ge hrh (by omega)) (br_f (nI_pos (by omega)) (br_f (nI_ge hcw (by omega)) ?_)))
  refine br_f (by decide) ?_
  refine ec_scan K hr hc hX hR (fun b17 hb fu b18 b19 b20 b21 => ?_)
  refine br_f (nI_ne0 (by omega) (by omega)) (nm_r hx ?_)
  rw [ec_bit hA (by omega), ec_bit hO (by omega)]
  have l2 : ∀ x : Nat, x % 2 < 2 := fun x => Nat.mod_lt x (by omega)
  have la := l2 ((4095 &&& ec_an (ec_c h w z) (h * w) 0) / 2 ^ (h * w - 1 - r * w - c))
  have lo := l2 (ec_on (ec_c h w o) (h * w) 0 / 2 ^ (h * w - 1 - r * w - c))
  refine pk_eq ((4095 &&& ec_an (ec_c h w z) (h * w) 0) / 2 ^ (h * w - 1 - r * w - c) % 2) 1 (fun e => ?_) (fun e => ?_)
  · have t := hp (nI (ec_cn (ec_c h w z) (ec_c h w o) (h * w) 0)) fu (nI (4095 &&& ec_an (ec_c h w z) (h * w) 0)) (nI (ec_on (ec_c h w o) (h * w) 0)) b17 hb b18 b19 b20 b21
    rw [ec_fo, if_pos e] at t
    exact t
  · refine pk_eq (ec_on (ec_c h w o) (h * w) 0 / 2 ^ (h * w - 1 - r * w - c) % 2) 1 (fun e2 => ?_) (fun e2 => ?_)
    · have t := hp (nI (ec_cn (ec_c h w z) (ec_c h w o) (h * w) 0)) fu (nI (4095 &&& ec_an (ec_c h w z) (h * w) 0)) (nI (ec_on (ec_c h w o) (h * w) 0)) b17 hb b18 b19 b20 b21
      rw [ec_fo, if_neg e, if_pos e2] at t
      exact t
    · have t := hp (nI (ec_cn (ec_c h w z) (ec_c h w o) (h * w) 0)) fu (nI (4095 &&& ec_an (ec_c h w z) (h * w) 0)) (nI (ec_on (ec_c h w o) (h * w) 0)) b17 hb b18 b19 b20 b21
      rw [ec_fo, if_neg e, if_neg e2] at t
      exact t
end
section
/-! the masks: line n takes the letter c alone (c < 2), all other lines both; with c = 2 every line takes both -/
def ec_zz (n c l : Nat) : Nat := if l = n ∧ c = 1 then 0 else 1
def ec_oo (n c l : Nat) : Nat := if l = n ∧ c = 0 then 0 else 1
theorem ec_z01 (n c l : Nat) : ec_zz n c l ≤ 1 ∧ ec_oo n c l ≤ 1 ∧ 1 ≤ ec_zz n c l + ec_oo n c l := by
  unfold ec_zz ec_oo
  split <;> split <;> omega
theorem ec_z2 (n : Nat) : ec_zz n 2 = fun _ => 1 := by
  funext l
  rw [ec_zz, if_neg (by omega)]
theorem ec_o2 (n : Nat) : ec_oo n 2 = fun _ => 1 := by
  funext l
  rw [ec_oo, if_neg (by omega)]
theorem ec_hc (h w n c : Nat) : ∀ d, 1 ≤ ec_c h w (ec_zz n c) d + ec_c h w (ec_oo n c) d := by
  intro d
  by_cases e : c = 1
  · have t : ∀ l, ec_oo n c l = 1 := fun l => by rw [ec_oo, if_neg (by omega)]
    have t2 : ec_c h w (ec_oo n c) d = 1 := by rw [ec_c, t, t]
    omega
  · have t : ∀ l, ec_zz n c l = 1 := fun l => by rw [ec_zz, if_neg (by omega)]
    have t2 : ec_c h w (ec_zz n c) d = 1 := by rw [ec_c, t, t]
    omega
theorem ec_T1 : ∀ h, h < 4 → ∀ w, w < 5 → ∀ n, n < h + w → ∀ c, c < 3 → ec_cn (ec_c h w (ec_zz n c)) (ec_c h w (ec_oo n c)) (h * w) 0 = 2 ^ (if c < 2 then h * w - ec_len h w n else h * w) := by decide +kernel
theorem ec_T2 : ∀ h, h < 4 → ∀ w, w < 5 → ∀ n, n < h + w → ∀ c, c < 3 → ec_rd (ec_c h w (ec_zz n c)) (ec_c h w (ec_oo n c)) (h * w) 0 < 20000 := by decide +kernel
theorem ec_T3 : ∀ h, h < 4 → ∀ w, w < 5 → ∀ n, n < h + w → ∀ c, c < 3 → ec_ct (ec_zz n c n) (ec_oo n c n) (ec_len h w n) (2 ^ ec_len h w n) = if c < 2 then 1 else 2 ^ ec_len h w n := by decide +kernel
theorem ec_T4 : ∀ h, h < 4 → ∀ w, w < 5 → ∀ n, n < h + w → ∀ c, c < 3 → ∀ i, i < h → ∀ j, j < w →
    ec_fo (4095 &&& ec_an (ec_c h w (ec_zz n c)) (h * w) 0) (ec_on (ec_c h w (ec_oo n c)) (h * w) 0) (h * w - 1 - i * w - j) = if c < 2 ∧ (n = i ∨ n = h + j) then c else 2 := by decide +kernel
theorem ec_T5 {h w n c : Nat} (hh : h ≤ 3) (hw : w ≤ 4) (hn : n < h + w) (hc : c < 3) : ec_cn (ec_c h w (ec_zz n c)) (ec_c h w (ec_oo n c)) (h * w) 0 ≤ 4096 := by
  rw [ec_T1 h (by omega) w (by omega) n hn c hc]
  have h12 := ec_hw h (by omega) w (by omega)
  exact Nat.le_trans (Nat.pow_le_pow_right (by omega) (show (if c < 2 then h * w - ec_len h w n else h * w) ≤ 12 by split <;> omega)) (by decide)
theorem ec_len_le {h w n : Nat} (h1 : 1 ≤ h) (w1 : 1 ≤ w) : ec_len h w n ≤ h * w := by
  unfold ec_len
  split
  · exact Nat.le_mul_of_pos_left w h1
  · exact Nat.le_mul_of_pos_right h w1
/-! the law's own checks -/
theorem ec_nlt {a b : Int32} (h : a ≤ b) : ¬ b < a := by
  intro g
  have h := Int32.le_iff_toInt_le.mp h
  have g := Int32.lt_iff_toInt_lt.mp g
  omega
theorem ec_3lt {x : Int32} (h : nI 3 ≤ x) : 2 < x ∧ ¬ x ≤ 2 := by
  have h := Int32.le_iff_toInt_le.mp h
  have e3 : (nI 3).toInt = 3 := by decide
  have e2 : (2 : Int32).toInt = 2 := by decide
  refine ⟨Int32.lt_iff_toInt_lt.mpr (by omega), fun g => ?_⟩
  have g := Int32.le_iff_toInt_le.mp g
  omega
theorem ec_chk {post : Int32 → St0 → Prop} {mc ms kc ks : Nat} {x2 x6 x7 x9 x10 x11 x12 x13 x14 x15 x16 x17 b18 b19 b20 L b22 b23 : Int32}
    (h9 : x9 = if b18 = 0 then -1 else 1) (h10 : x10 = if b18 = 0 then -3 else 1) (h11 : x11 = if b19 = 0 then -1 else if b18 = 0 then -3 else 0)
    (h12 : x12 = if b18 = 0 then 0 else if b19 = 0 then 1 else 0) (h13 : x13 = if b19 = 0 then -1 else if b22 = 0 then (1 : Int32) <<< (L &&& 31) else 1)
    (h14 : x14 = (1 : Int32) <<< ((if b22 = 0 then x6 * x7 else x6 * x7 - L) &&& 31)) (h15 : x15 = if b20 = 0 then -1 else if b22 = 0 then 2 else if b23 = 0 then 2 else x2)
    (h16 : x16 = if b19 = 0 then -1 else 0) (h17 : x17 = (1 : Int32) <<< ((x6 * x7) &&& 31)) (hp : post 1 ()) :
    wL_lawOf_248 post mc ms x2 x6 x7 x9 x10 x11 x12 x13 x14 x15 x16 x17 b18 b19 b20 L b22 b23 kc ks := by
  have s422 : ∀ z : Int32, x16 = z → wL_lawOf_422 post mc ms x6 x7 x17 z x16 kc ks := fun z e => br_t e (br_t h17 hp)
  have s407 : ∀ z : Int32, x15 = z → wL_lawOf_407 post mc ms x6 x7 x16 x17 b19 z x15 kc ks := fun z e => br_t e (br_c (fun g => s422 _ (by rw [h16, if_pos g])) (fun g => s422 _ (by rw [h16, if_neg g])))
  have s377 : ∀ z : Int32, z = (if b22 = 0 then x6 * x7 else x6 * x7 - L) → wL_lawOf_377 post mc ms x2 x6 x7 x15 x16 x17 b19 b20 b22 b23 z 1 x14 kc ks := by
    intro z e
    refine br_t (by rw [h14, e]) (br_c (fun g => s407 _ (by rw [h15, if_pos g])) (fun g => br_c (fun g2 => s407 _ (by rw [h15, if_neg g, if_pos g2])) (fun g2 => br_c (fun g3 => s407 _ (by rw [h15, if_neg g, if_neg g2, if_pos g3])) (fun g3 => s407 _ (by rw [h15, if_neg g, if_neg g2, if_neg g3])))))
  have s350 : ∀ z : Int32, x13 = z → wL_lawOf_350 post mc ms x2 x6 x7 x14 x15 x16 x17 b19 b20 L b22 b23 z x13 kc ks := fun z e => br_t e (br_c (fun g => s377 _ (by rw [if_pos g])) (fun g => s377 _ (by rw [if_neg g])))
  have s323 : ∀ z : Int32, x12 = z → wL_lawOf_323 post mc ms x2 x6 x7 x13 x14 x15 x16 x17 b19 b20 L b22 b23 z x12 kc ks := fun z e => br_t e (br_c (fun g => s350 _ (by rw [h13, if_pos g])) (fun g => br_c (fun g2 => s350 _ (by rw [h13, if_neg g, if_pos g2])) (fun g2 => s350 _ (by rw [h13, if_neg g, if_neg g2]))))
  have s303 : ∀ z : Int32, x11 = z → wL_lawOf_303 post mc ms x2 x6 x7 x12 x13 x14 x15 x16 x17 b18 b19 b20 L b22 b23 z x11 kc ks := fun z e => br_t e (br_c (fun g => s323 _ (by rw [h12, if_pos g])) (fun g => br_c (fun g2 => s323 _ (by rw [h12, if_neg g, if_pos g2])) (fun g2 => s323 _ (by rw [h12, if_neg g, if_neg g2]))))
  have s278 : ∀ z : Int32, x10 = z → wL_lawOf_278 post mc ms x2 x6 x7 x11 x12 x13 x14 x15 x16 x17 b18 b19 b20 L b22 b23 z x10 kc ks := fun z e => br_t e (br_c (fun g => s303 _ (by rw [h11, if_pos g])) (fun g => br_c (fun g2 => s303 _ (by rw [h11, if_neg g, if_pos g2])) (fun g2 => s303 _ (by rw [h11, if_neg g, if_neg g2]))))
  have s262 : ∀ z : Int32, x9 = z → wL_lawOf_262 post mc ms x2 x6 x7 x10 x11 x12 x13 x14 x15 x16 x17 b18 b19 b20 L b22 b23 z x9 kc ks := fun z e => br_t e (br_c (fun g => s278 _ (by rw [h10, if_pos g])) (fun g => s278 _ (by rw [h10, if_neg g])))
  exact br_c (fun g => s262 _ (by rw [h9, if_pos g])) (fun g => s262 _ (by rw [h9, if_neg g]))
theorem ec_top {post : Int32 → St0 → Prop} {mc ms kc ks h w : Nat} {x2 x3 x4 x5 x9 x10 x11 x12 x13 x14 x15 x16 x17 b18 b19 b20 b22 b23 : Int32} (hh : h ≤ 3) (hw : w ≤ 4)
    (e18 : ((x2 < 0 ∨ nI 3 ≤ x2) ∧ b18 = 0) ∨ ((∃ c, c < 3 ∧ x2 = nI c) ∧ b18 = 1))
    (e19 : ((x3 < 0 ∨ nI (h + w) ≤ x3) ∧ b19 = 0) ∨ ((∃ l, l < h + w ∧ x3 = nI l) ∧ b19 = 1))
    (e20 : ((x4 < 0 ∨ nI h ≤ x4 ∨ x5 < 0 ∨ nI w ≤ x5) ∧ b20 = 0) ∨ ((∃ i j, i < h ∧ j < w ∧ x4 = nI i ∧ x5 = nI j) ∧ b20 = 1))
    (e22 : ((b18 = 0 ∨ b19 = 0 ∨ 2 ≤ x2) ∧ b22 = 0) ∨ (¬ b18 = 0 ∧ ¬ b19 = 0 ∧ ¬ 2 ≤ x2 ∧ b22 = 1))
    (e23 : ((x3 = x4 ∨ x3 = nI h + x5) ∧ b23 = 1) ∨ (¬ x3 = x4 ∧ ¬ x3 = nI h + x5 ∧ b23 = 0))
    (h9 : x9 = if b18 = 0 then -1 else 1) (h10 : x10 = if b18 = 0 then -3 else 1) (h11 : x11 = if b19 = 0 then -1 else if b18 = 0 then -3 else 0)
    (h12 : x12 = if b18 = 0 then 0 else if b19 = 0 then 1 else 0)
    (h13 : ∀ L, (∀ n, n < h + w → x3 = nI n → L = nI (ec_len h w n)) → x13 = if b19 = 0 then -1 else if b22 = 0 then (1 : Int32) <<< (L &&& 31) else 1)
    (h14 : ∀ L, (∀ n, n < h + w → x3 = nI n → L = nI (ec_len h w n)) → x14 = (1 : Int32) <<< ((if b22 = 0 then nI h * nI w else nI h * nI w - L) &&& 31))
    (h15 : x15 = if b20 = 0 then -1 else if b22 = 0 then 2 else if b23 = 0 then 2 else x2)
    (h16 : x16 = if b19 = 0 then -1 else 0) (h17 : x17 = (1 : Int32) <<< ((nI h * nI w) &&& 31)) (hp : post 1 ()) :
    (x2 < 0 → wL_lawOf_137 post mc ms x2 x3 x4 x5 (nI h) (nI w) x9 x10 x11 x12 x13 x14 x15 x16 x17 kc ks) ∧ (¬ x2 < 0 → ((2 < x2 → wL_lawOf_137 post mc ms x2 x3 x4 x5 (nI h) (nI w) x9 x10 x11 x12 x13 x14 x15 x16 x17 kc ks) ∧ (¬ 2 < x2 → wL_lawOf_138 post mc ms x2 x3 x4 x5 (nI h) (nI w) x9 x10 x11 x12 x13 x14 x15 x16 x17 1 kc ks))) := by
  have s248 : ∀ L, (∀ n, n < h + w → x3 = nI n → L = nI (ec_len h w n)) → wL_lawOf_248 post mc ms x2 (nI h) (nI w) x9 x10 x11 x12 x13 x14 x15 x16 x17 b18 b19 b20 L b22 b23 kc ks := fun L hL => ec_chk h9 h10 h11 h12 (h13 L hL) (h14 L hL) h15 h16 h17 hp
  have s226 : ∀ L, (∀ n, n < h + w → x3 = nI n → L = nI (ec_len h w n)) → wL_lawOf_226 post mc ms x2 x3 x4 x5 (nI h) (nI w) x9 x10 x11 x12 x13 x14 x15 x16 x17 b18 b19 b20 L b22 kc ks := by
    intro L hL
    have t := s248 L hL
    rcases e23 with ⟨g | g, e⟩ | ⟨g, g2, e⟩
    · rw [e] at t
      exact br_t g t
    · rw [e] at t
      exact br_c (fun _ => t) (fun _ => br_t g t)
    · rw [e] at t
      exact br_f g (br_f g2 t)
  have s204 : ∀ L, (∀ n, n < h + w → x3 = nI n → L = nI (ec_len h w n)) → wL_lawOf_204 post mc ms x2 x3 x4 x5 (nI h) (nI w) x9 x10 x11 x12 x13 x14 x15 x16 x17 b18 b19 b20 L kc ks := by
    intro L hL
    have t := s226 L hL
    rcases e22 with ⟨g, e⟩ | ⟨g, g2, g3, e⟩
    · rw [e] at t
      exact br_c (fun _ => t) (fun k1 => br_c (fun _ => t) (fun k2 => br_t ((g.resolve_left k1).resolve_left k2) t))
    · rw [e] at t
      exact br_f g (br_f g2 (br_f g3 t))
  have s189 : wL_lawOf_189 post mc ms x2 x3 x4 x5 (nI h) (nI w) x9 x10 x11 x12 x13 x14 x15 x16 x17 b18 b19 b20 kc ks := by
    refine br_c (fun g => s204 _ (fun n hn e => ?_)) (fun g => s204 _ (fun n hn e => ?_))
    · rw [e, nI_leI (by omega) (by omega)] at g
      rw [ec_len, if_neg (by omega)]
    · rw [e, nI_leI (by omega) (by omega)] at g
      rw [ec_len, if_pos (by omega)]
  have s158 : wL_lawOf_158 post mc ms x2 x3 x4 x5 (nI h) (nI w) x9 x10 x11 x12 x13 x14 x15 x16 x17 b18 b19 kc ks := by
    have t := s189
    rcases e20 with ⟨g, e⟩ | ⟨⟨i, j, hi, hj, e4, e5⟩, e⟩
    · rw [e] at t
      exact br_c (fun _ => t) (fun k1 => br_c (fun _ => t) (fun k2 => br_c (fun _ => t) (fun k3 => br_t (((g.resolve_left k1).resolve_left k2).resolve_left k3) t)))
    · rw [e] at t
      exact br_f (by rw [e4]; exact nI_pos (by omega)) (br_f (by rw [e4]; exact nI_ge hi (by omega)) (br_f (by rw [e5]; exact nI_pos (by omega)) (br_f (by rw [e5]; exact nI_ge hj (by omega)) t)))
  have s138 : wL_lawOf_138 post mc ms x2 x3 x4 x5 (nI h) (nI w) x9 x10 x11 x12 x13 x14 x15 x16 x17 b18 kc ks := by
    have t := s158
    rcases e19 with ⟨g, e⟩ | ⟨⟨l, hl, e3⟩, e⟩
    · rw [e] at t
      exact br_c (fun _ => t) (fun k1 => br_t (by rw [nI_add]; exact g.resolve_left k1) t)
    · rw [e] at t
      exact br_f (by rw [e3]; exact nI_pos (by omega)) (br_f (by rw [e3, nI_add]; exact nI_ge hl (by omega)) t)
  rcases e18 with ⟨g, e⟩ | ⟨⟨c, hc, e2⟩, e⟩
  · rw [e] at s138
    exact br_c (fun _ => s138) (fun k1 => br_t (ec_3lt (g.resolve_left k1)).1 s138)
  · rw [e] at s138
    exact br_f (by rw [e2]; exact nI_pos (by omega)) (br_f (by rw [e2]; exact nI_nlt (b := c) (a := 2) (by omega) (by omega)) s138)
end
section
def ec_A1 (x2 r fh fp : Int32) (a4 a5 a6 a8 a9 : Nat → Int32) : Prop :=
  ((x2 < 0 ∨ nI 3 ≤ x2) ∧ r = -1 ∧ fh = 0) ∨ (∃ c, c < 3 ∧ x2 = nI c ∧ r = 1 ∧ fh = 1 ∧ fp = 1 ∧ a4 0 = 0 ∧ a5 0 = 1 ∧ a6 0 = 1 ∧ a8 0 = nI c ∧ a9 0 = 0)
def ec_A2 (x2 r1 r2 fh fp : Int32) (a4 a5 a6 a7 a8 a9 : Nat → Int32) : Prop :=
  ((x2 < 0 ∨ nI 3 ≤ x2) ∧ r1 = -1 ∧ r2 = -3 ∧ fh = 0) ∨ (∃ c, c < 3 ∧ x2 = nI c ∧ r1 = 1 ∧ r2 = 1 ∧ fh = 1 ∧ fp = 1 ∧ a4 0 = 0 ∧ a5 0 = 1 ∧ a6 0 = 1 ∧ a7 0 = 1 ∧ a8 0 = nI c ∧ a9 0 = 1)
/-- after setLine: the four ways; b18, b19: the law's own flags -/
def ec_A3 (h w n c : Nat) (x2 x3 r1 r2 r3 r4 b18 b19 : Int32) : Prop :=
  ((x2 < 0 ∨ nI 3 ≤ x2) ∧ (x3 < 0 ∨ nI (h + w) ≤ x3) ∧ r1 = -1 ∧ r2 = -3 ∧ r3 = -1 ∧ r4 = 0 ∧ n = 0 ∧ c = 2 ∧ b18 = 0 ∧ b19 = 0) ∨
  ((x2 < 0 ∨ nI 3 ≤ x2) ∧ x3 = nI n ∧ r1 = -1 ∧ r2 = -3 ∧ r3 = -3 ∧ r4 = 0 ∧ c = 2 ∧ b18 = 0 ∧ b19 = 1) ∨
  ((∃ e, e < 3 ∧ x2 = nI e) ∧ (x3 < 0 ∨ nI (h + w) ≤ x3) ∧ r1 = 1 ∧ r2 = 1 ∧ r3 = -1 ∧ r4 = 1 ∧ n = 0 ∧ c = 2 ∧ b18 = 1 ∧ b19 = 0) ∨
  (x2 = nI c ∧ x3 = nI n ∧ r1 = 1 ∧ r2 = 1 ∧ r3 = 0 ∧ r4 = 0 ∧ b18 = 1 ∧ b19 = 1)
theorem ec_letterU {post : Int32 → St2 → Prop} {x2 : Int32} {h w : Nat} {fd ff fu fa fo : Int32} {a1 a2 a3 a4 a5 a6 a7 a8 a9 a10 a11 a12 a13 a14 a15 a16 a17 a18 a19 a20 a21 : Nat → Int32}
    (hp : ∀ (r fh fp : Int32) (a4 a5 a6 a7 a8 a9 : Nat → Int32), ec_A1 x2 r fh fp a4 a5 a6 a8 a9 → post r ((nI h), (nI w), (nI (h + w)), (nI (h * w)), fh, fp, fd, ff, fu, fa, fo, a1, a2, a3, a4, a5, a6, a7, a8, a9, a10, a11, a12, a13, a14, a15, a16, a17, a18, a19, a20, a21)) : wpX_letter post ((nI h), (nI w), (nI (h + w)), (nI (h * w)), 0, 0, fd, ff, fu, fa, fo, a1, a2, a3, a4, a5, a6, a7, a8, a9, a10, a11, a12, a13, a14, a15, a16, a17, a18, a19, a20, a21) x2 := by
  rcases pk_ix x2 (n := 3) (by omega) with e | e | ⟨c, hc, e⟩
  · exact ec_letter_bad (Or.inl e) (hp _ _ _ _ _ _ _ _ _ (Or.inl ⟨Or.inl e, rfl, rfl⟩))
  · exact ec_letter_bad (Or.inr (ec_3lt e).2) (hp _ _ _ _ _ _ _ _ _ (Or.inl ⟨Or.inr e, rfl, rfl⟩))
  · subst e
    exact ec_letter_ok (by omega) (fun b7 => hp _ _ _ _ _ _ _ _ _ (Or.inr ⟨c, hc, rfl, rfl, rfl, rfl, pk_us, pk_us, pk_us, pk_us, pk_us⟩))
theorem ec_starU {post : Int32 → St2 → Prop} {x2 r1 : Int32} {h w : Nat} {fh fp fd ff fu fa fo : Int32} {a1 a2 a3 a4 a5 a6 a7 a8 a9 a10 a11 a12 a13 a14 a15 a16 a17 a18 a19 a20 a21 : Nat → Int32} (H : ec_A1 x2 r1 fh fp a4 a5 a6 a8 a9)
    (hp : ∀ (r2 : Int32) (a7 a9 : Nat → Int32), ec_A2 x2 r1 r2 fh fp a4 a5 a6 a7 a8 a9 → post r2 ((nI h), (nI w), (nI (h + w)), (nI (h * w)), fh, fp, fd, ff, fu, fa, fo, a1, a2, a3, a4, a5, a6, a7, a8, a9, a10, a11, a12, a13, a14, a15, a16, a17, a18, a19, a20, a21)) : wpX_star post ((nI h), (nI w), (nI (h + w)), (nI (h * w)), fh, fp, fd, ff, fu, fa, fo, a1, a2, a3, a4, a5, a6, a7, a8, a9, a10, a11, a12, a13, a14, a15, a16, a17, a18, a19, a20, a21) := by
  rcases H with ⟨hb, e1, e2⟩ | ⟨c, hc, e, e1, e2, e3, k4, k5, k6, k8, k9⟩
  · subst e2
    exact ec_star_no (hp _ _ _ (Or.inl ⟨hb, e1, rfl, rfl⟩))
  · subst e2
    refine ec_star_ok k5 k6 (fun b9 hb => hp _ _ _ (Or.inr ⟨c, hc, e, e1, rfl, rfl, e3, k4, k5, k6, pk_us, k8, ?_⟩))
    rw [hb, k9]
    rfl
theorem ec_K2 {h w n : Nat} {a1 a2 a3 a11 a12 a13 a14 a15 a16 : Nat → Int32} (K : ec_K h w (fun _ => 1) (fun _ => 1) a1 a2 a3 a11 a12 a13 a14 a15 a16) : ec_K h w (ec_zz n 2) (ec_oo n 2) a1 a2 a3 a11 a12 a13 a14 a15 a16 := by
  rw [ec_z2, ec_o2]
  exact K
theorem ec_setU {post : Int32 → St2 → Prop} {x2 x3 r1 r2 : Int32} {h w : Nat} {fh fp ff fu fa fo : Int32} {a1 a2 a3 a4 a5 a6 a7 a8 a9 a10 a11 a12 a13 a14 a15 a16 a17 a18 a19 a20 a21 : Nat → Int32} (H : ec_A2 x2 r1 r2 fh fp a4 a5 a6 a7 a8 a9) (K : ec_K h w (fun _ => 1) (fun _ => 1) a1 a2 a3 a11 a12 a13 a14 a15 a16)
    (hp : ∀ (n c : Nat) (b18 b19 r3 fh fp : Int32) (a11 a12 a13 a14 a15 a16 : Nat → Int32), n < h + w → c < 3 → ec_A3 h w n c x2 x3 r1 r2 r3 fh b18 b19 → ec_K h w (ec_zz n c) (ec_oo n c) a1 a2 a3 a11 a12 a13 a14 a15 a16 → post r3 ((nI h), (nI w), (nI (h + w)), (nI (h * w)), fh, fp, 0, ff, fu, fa, fo, a1, a2, a3, a4, a5, a6, a7, a8, a9, a10, a11, a12, a13, a14, a15, a16, a17, a18, a19, a20, a21)) : wpX_setLine post ((nI h), (nI w), (nI (h + w)), (nI (h * w)), fh, fp, 0, ff, fu, fa, fo, a1, a2, a3, a4, a5, a6, a7, a8, a9, a10, a11, a12, a13, a14, a15, a16, a17, a18, a19, a20, a21) x3 := by
  have K' := K
  obtain ⟨⟨h1, h3, w1, w4⟩, G, hL, hzo⟩ := K'
  rcases pk_ix x3 (n := h + w) (by omega) with e | e | ⟨l, hl, e⟩
  · refine ec_set_bad (Or.inl e) ?_
    rcases H with ⟨hb, e1, e2, ef⟩ | ⟨c, hc, e0, e1, e2, ef, _⟩
    · exact hp 0 2 0 0 _ _ _ _ _ _ _ _ _ (by omega) (by omega) (Or.inl ⟨hb, Or.inl e, e1, e2, rfl, ef, rfl, rfl, rfl, rfl⟩) (ec_K2 K)
    · exact hp 0 2 1 0 _ _ _ _ _ _ _ _ _ (by omega) (by omega) (Or.inr (Or.inr (Or.inl ⟨⟨c, hc, e0⟩, Or.inl e, e1, e2, rfl, ef, rfl, rfl, rfl, rfl⟩))) (ec_K2 K)
  · refine ec_set_bad (Or.inr (ec_nlt e)) ?_
    rcases H with ⟨hb, e1, e2, ef⟩ | ⟨c, hc, e0, e1, e2, ef, _⟩
    · exact hp 0 2 0 0 _ _ _ _ _ _ _ _ _ (by omega) (by omega) (Or.inl ⟨hb, Or.inr e, e1, e2, rfl, ef, rfl, rfl, rfl, rfl⟩) (ec_K2 K)
    · exact hp 0 2 1 0 _ _ _ _ _ _ _ _ _ (by omega) (by omega) (Or.inr (Or.inr (Or.inl ⟨⟨c, hc, e0⟩, Or.inr e, e1, e2, rfl, ef, rfl, rfl, rfl, rfl⟩))) (ec_K2 K)
  · subst e
    rcases H with ⟨hb, e1, e2, ef⟩ | ⟨c, hc, e0, e1, e2, ef, efp, k4, k5, k6, k7, k8, k9⟩
    · subst ef
      exact ec_set_few h3 w4 hl (hp l 2 0 1 _ _ _ _ _ _ _ _ _ hl (by omega) (Or.inr (Or.inl ⟨hb, rfl, e1, e2, rfl, rfl, rfl, rfl, rfl⟩)) (ec_K2 K))
    · subst ef
      subst efp
      refine ec_set_ok h3 w4 hl (by omega) k4 k5 k6 k7 k8 k9 (fun b14 b15 s1 s2 s3 s4 => ?_)
      refine hp l c 1 1 _ _ _ _ _ _ _ _ _ hl hc (Or.inr (Or.inr (Or.inr ⟨e0, rfl, e1, e2, rfl, rfl, rfl, rfl⟩))) ⟨⟨h1, h3, w1, w4⟩, G, fun i hi => ?_, ec_z01 l c⟩
      by_cases ei : i = l
      · subst ei
        refine ⟨pk_us, pk_us, pk_us, ?_, ?_, pk_us, fun p p1 p8 => ?_⟩
        · rw [s1, ec_zz]
          by_cases ec : c = 1
          · rw [if_pos ec, if_pos ⟨rfl, ec⟩]
          · rw [if_neg ec, if_neg (fun t => ec t.2)]
        · rw [s3, ec_oo]
          by_cases ec : c = 0
          · rw [if_pos ec, if_pos ⟨rfl, ec⟩]
          · rw [if_neg ec, if_neg (fun t => ec t.2)]
        · rw [pk_un (by omega)]
          exact (hL i hi).2.2.2.2.2.2 p p1 p8
      · rw [show ec_zz l c i = 1 by rw [ec_zz, if_neg (fun t => ei t.1)], show ec_oo l c i = 1 by rw [ec_oo, if_neg (fun t => ei t.1)]]
        exact ec_Lput ei (hL i hi) (fun j hj => pk_un hj) (fun j hj => pk_un hj) (fun j hj => pk_un hj) s2 s4 (fun j hj => pk_un (by omega))
theorem ec_wordsU {post : Int32 → St2 → Prop} {x3 : Int32} {h w n c : Nat} {fh fp ff fu fa fo : Int32} {a1 a2 a3 a4 a5 a6 a7 a8 a9 a10 a11 a12 a13 a14 a15 a16 a17 a18 a19 a20 a21 : Nat → Int32} (K : ec_K h w (ec_zz n c) (ec_oo n c) a1 a2 a3 a11 a12 a13 a14 a15 a16) (hn : n < h + w) (hc : c < 3)
    (hl : (x3 < 0 ∨ nI (h + w) ≤ x3) ∨ x3 = nI n)
    (hp : ∀ (r fd : Int32) (a17 : Nat → Int32), (fd = 0 ∨ (fd = 1 ∧ ec_bk h w a17)) → (((x3 < 0 ∨ nI (h + w) ≤ x3) ∧ r = -1) ∨ (x3 = nI n ∧ r = nI (if c < 2 then 1 else 2 ^ ec_len h w n))) → post r ((nI h), (nI w), (nI (h + w)), (nI (h * w)), fh, fp, fd, ff, fu, fa, fo, a1, a2, a3, a4, a5, a6, a7, a8, a9, a10, a11, a12, a13, a14, a15, a16, a17, a18, a19, a20, a21)) : wpX_lineWords post ((nI h), (nI w), (nI (h + w)), (nI (h * w)), fh, fp, 0, ff, fu, fa, fo, a1, a2, a3, a4, a5, a6, a7, a8, a9, a10, a11, a12, a13, a14, a15, a16, a17, a18, a19, a20, a21) x3 := by
  have K' := K
  obtain ⟨⟨h1, h3, w1, w4⟩, _⟩ := K'
  rcases hl with hb | e
  · refine ec_words_bad ?_ (hp _ _ _ (Or.inl rfl) (Or.inl ⟨hb, rfl⟩))
    rcases hb with g | g
    · exact Or.inl g
    · exact Or.inr (ec_nlt g)
  · rw [e]
    refine ec_lineWords K (Or.inl rfl) hn (fun b hb => hp _ _ _ (Or.inr ⟨rfl, hb⟩) (Or.inr ⟨e, ?_⟩))
    rw [ec_T3 h (by omega) w (by omega) n hn c hc]
theorem ec_forcedU {post : Int32 → St2 → Prop} {x4 x5 : Int32} {h w n c : Nat} {fh fp fd ff fu fa fo : Int32} {a1 a2 a3 a4 a5 a6 a7 a8 a9 a10 a11 a12 a13 a14 a15 a16 a17 a18 a19 a20 a21 : Nat → Int32} (K : ec_K h w (ec_zz n c) (ec_oo n c) a1 a2 a3 a11 a12 a13 a14 a15 a16) (hn : n < h + w) (hc : c < 3)
    (hr : fd = 0 ∨ (fd = 1 ∧ ec_bk h w a17))
    (hp : ∀ (r fd ff fu fa fo : Int32) (a17 a18 a19 a20 a21 : Nat → Int32), (fd = 0 ∨ (fd = 1 ∧ ec_bk h w a17)) → (((x4 < 0 ∨ nI h ≤ x4 ∨ x5 < 0 ∨ nI w ≤ x5) ∧ r = -1) ∨ (∃ i j, i < h ∧ j < w ∧ x4 = nI i ∧ x5 = nI j ∧ r = nI (if c < 2 ∧ (n = i ∨ n = h + j) then c else 2))) → post r ((nI h), (nI w), (nI (h + w)), (nI (h * w)), fh, fp, fd, ff, fu, fa, fo, a1, a2, a3, a4, a5, a6, a7, a8, a9, a10, a11, a12, a13, a14, a15, a16, a17, a18, a19, a20, a21)) : wpX_forced post ((nI h), (nI w), (nI (h + w)), (nI (h * w)), fh, fp, fd, ff, fu, fa, fo, a1, a2, a3, a4, a5, a6, a7, a8, a9, a10, a11, a12, a13, a14, a15, a16, a17, a18, a19, a20, a21) x4 x5 := by
  have K' := K
  obtain ⟨⟨h1, h3, w1, w4⟩, _⟩ := K'
  rcases pk_ix x4 (n := h) (by omega) with e | e | ⟨i, hi, e⟩
  · exact ec_forced_no (Or.inl e) (hp _ _ _ _ _ _ _ _ _ _ _ hr (Or.inl ⟨Or.inl e, rfl⟩))
  · exact ec_forced_no (Or.inr (Or.inl e)) (hp _ _ _ _ _ _ _ _ _ _ _ hr (Or.inl ⟨Or.inr (Or.inl e), rfl⟩))
  · rcases pk_ix x5 (n := w) (by omega) with f | f | ⟨j, hj, f⟩
    · exact ec_forced_no (Or.inr (Or.inr (Or.inl f))) (hp _ _ _ _ _ _ _ _ _ _ _ hr (Or.inl ⟨Or.inr (Or.inr (Or.inl f)), rfl⟩))
    · exact ec_forced_no (Or.inr (Or.inr (Or.inr f))) (hp _ _ _ _ _ _ _ _ _ _ _ hr (Or.inl ⟨Or.inr (Or.inr (Or.inr f)), rfl⟩))
    · subst e
      subst f
      refine ec_forced_ok K hr (ec_hc h w n c) (ec_T5 h3 w4 hn hc) (ec_T2 h (by omega) w (by omega) n hn c hc) hi hj (fun ff fu fa fo b17 hb b18 b19 b20 b21 => hp _ _ _ _ _ _ _ _ _ _ _ (Or.inr ⟨rfl, hb⟩) (Or.inr ⟨i, j, hi, hj, rfl, rfl, ?_⟩))
      rw [ec_T4 h (by omega) w (by omega) n hn c hc i hi j hj]
theorem ec_freeU {post : Int32 → St2 → Prop} {x3 : Int32} {h w n c : Nat} {fh fp fd ff fu fa fo : Int32} {a1 a2 a3 a4 a5 a6 a7 a8 a9 a10 a11 a12 a13 a14 a15 a16 a17 a18 a19 a20 a21 : Nat → Int32} (K : ec_K h w (ec_zz n c) (ec_oo n c) a1 a2 a3 a11 a12 a13 a14 a15 a16) (hn : n < h + w) (hr : fd = 0 ∨ (fd = 1 ∧ ec_bk h w a17))
    (hl : ((x3 < 0 ∨ nI (h + w) ≤ x3) ∧ c = 2) ∨ x3 = nI n)
    (hp : ∀ (r fd : Int32) (a11 a12 a13 a14 a15 a16 : Nat → Int32), (fd = 0 ∨ (fd = 1 ∧ ec_bk h w a17)) → ec_K h w (ec_zz 0 2) (ec_oo 0 2) a1 a2 a3 a11 a12 a13 a14 a15 a16 → (((x3 < 0 ∨ nI (h + w) ≤ x3) ∧ r = -1) ∨ (x3 = nI n ∧ r = 0)) → post r ((nI h), (nI w), (nI (h + w)), (nI (h * w)), fh, fp, fd, ff, fu, fa, fo, a1, a2, a3, a4, a5, a6, a7, a8, a9, a10, a11, a12, a13, a14, a15, a16, a17, a18, a19, a20, a21)) : wpX_freeLine post ((nI h), (nI w), (nI (h + w)), (nI (h * w)), fh, fp, fd, ff, fu, fa, fo, a1, a2, a3, a4, a5, a6, a7, a8, a9, a10, a11, a12, a13, a14, a15, a16, a17, a18, a19, a20, a21) x3 := by
  have K' := K
  obtain ⟨⟨h1, h3, w1, w4⟩, G, hL, hzo⟩ := K'
  rcases hl with ⟨hb, e⟩ | e
  · subst e
    refine ec_free_bad ?_ (hp _ _ _ _ _ _ _ _ hr ?_ (Or.inl ⟨hb, rfl⟩))
    · rcases hb with g | g
      · exact Or.inl g
      · exact Or.inr (ec_nlt g)
    · rw [ec_z2, ec_o2] at K
      exact ec_K2 K
  · rw [e]
    refine ec_free_ok h3 w4 hn (fun b b1 b2 b3 => hp _ _ _ _ _ _ _ _ (Or.inl rfl) ⟨⟨h1, h3, w1, w4⟩, G, fun i hi => ?_, ec_z01 0 2⟩ (Or.inr ⟨e, rfl⟩))
    rw [ec_z2, ec_o2]
    by_cases ei : i = n
    · subst ei
      exact ec_Lany b1 b2
    · have t := hL i hi
      rw [show ec_zz n c i = 1 by rw [ec_zz, if_neg (fun t => ei t.1)], show ec_oo n c i = 1 by rw [ec_oo, if_neg (fun t => ei t.1)]] at t
      exact ec_Lput ei t (fun j hj => pk_un hj) (fun j hj => pk_un hj) (fun j hj => pk_un hj) (fun j hj => pk_un hj) (fun j hj => pk_un hj) b3
theorem ec_two {c : Nat} (h : c < 3) : (2 : Int32) ≤ nI c ↔ 2 ≤ c := nI_leI (a := 2) (by omega) (by omega)
/-- the answers meet the law -/
theorem ec_fin {post : Int32 → St0 → Prop} {mc ms kc ks h w n c : Nat} {x2 x3 x4 x5 r1 r2 r3 r4 r5 r7 r8 b18 b19 : Int32} (h1 : 1 ≤ h) (hh : h ≤ 3) (w1 : 1 ≤ w) (hw : w ≤ 4) (hn : n < h + w) (hc : c < 3)
    (H3 : ec_A3 h w n c x2 x3 r1 r2 r3 r4 b18 b19)
    (H5 : ((x3 < 0 ∨ nI (h + w) ≤ x3) ∧ r5 = -1) ∨ (x3 = nI n ∧ r5 = nI (if c < 2 then 1 else 2 ^ ec_len h w n)))
    (H7 : ((x4 < 0 ∨ nI h ≤ x4 ∨ x5 < 0 ∨ nI w ≤ x5) ∧ r7 = -1) ∨ (∃ i j, i < h ∧ j < w ∧ x4 = nI i ∧ x5 = nI j ∧ r7 = nI (if c < 2 ∧ (n = i ∨ n = h + j) then c else 2)))
    (H8 : ((x3 < 0 ∨ nI (h + w) ≤ x3) ∧ r8 = -1) ∨ (x3 = nI n ∧ r8 = 0)) (hp : post 1 ()) :
    (x2 < 0 → wL_lawOf_137 post mc ms x2 x3 x4 x5 (nI h) (nI w) r1 r2 r3 r4 r5 (nI (2 ^ (if c < 2 then h * w - ec_len h w n else h * w))) r7 r8 (nI (2 ^ (h * w))) kc ks) ∧ (¬ x2 < 0 → ((2 < x2 → wL_lawOf_137 post mc ms x2 x3 x4 x5 (nI h) (nI w) r1 r2 r3 r4 r5 (nI (2 ^ (if c < 2 then h * w - ec_len h w n else h * w))) r7 r8 (nI (2 ^ (h * w))) kc ks) ∧ (¬ 2 < x2 → wL_lawOf_138 post mc ms x2 x3 x4 x5 (nI h) (nI w) r1 r2 r3 r4 r5 (nI (2 ^ (if c < 2 then h * w - ec_len h w n else h * w))) r7 r8 (nI (2 ^ (h * w))) 1 kc ks))) := by
  have h12 := ec_hw h (by omega) w (by omega)
  have hlen := ec_len_le (n := n) h1 w1
  have hl4 := ec_len4 (l := n) hh hw
  have nb : ∀ l, l < h + w → x3 = nI l → ¬ (x3 < 0 ∨ nI (h + w) ≤ x3) := by
    intro l hl e g
    rw [e] at g
    rcases g with g | g
    · exact nI_pos (by omega) g
    · exact nI_ge hl (by omega) g
  have t17 : nI (2 ^ (h * w)) = (1 : Int32) <<< ((nI h * nI w) &&& 31) := by rw [pk_mul, ec_one _ h12]
  have e20 : ∃ b20 : Int32, (((x4 < 0 ∨ nI h ≤ x4 ∨ x5 < 0 ∨ nI w ≤ x5) ∧ b20 = 0) ∨ ((∃ i j, i < h ∧ j < w ∧ x4 = nI i ∧ x5 = nI j) ∧ b20 = 1)) ∧ (b20 = 0 → r7 = -1) ∧ (¬ b20 = 0 → ∃ i j, i < h ∧ j < w ∧ x4 = nI i ∧ x5 = nI j ∧ r7 = nI (if c < 2 ∧ (n = i ∨ n = h + j) then c else 2)) := by
    rcases H7 with ⟨g, e⟩ | ⟨i, j, hi, hj, e4, e5, e⟩
    · exact ⟨0, Or.inl ⟨g, rfl⟩, fun _ => e, fun g => absurd rfl g⟩
    · exact ⟨1, Or.inr ⟨⟨i, j, hi, hj, e4, e5⟩, rfl⟩, fun g => absurd g (by decide), fun _ => ⟨i, j, hi, hj, e4, e5, e⟩⟩
  have e23 : ∃ b23 : Int32, ((x3 = x4 ∨ x3 = nI h + x5) ∧ b23 = 1) ∨ (¬ x3 = x4 ∧ ¬ x3 = nI h + x5 ∧ b23 = 0) := by
    by_cases g : x3 = x4
    · exact ⟨1, Or.inl ⟨Or.inl g, rfl⟩⟩
    · by_cases g2 : x3 = nI h + x5
      · exact ⟨1, Or.inl ⟨Or.inr g2, rfl⟩⟩
      · exact ⟨0, Or.inr ⟨g, g2, rfl⟩⟩
  obtain ⟨b20, e20, r70, r71⟩ := e20
  obtain ⟨b23, e23⟩ := e23
  /- the law without a tight line -/
  have loose : c = 2 → ((b18 = 0 ∨ b19 = 0 ∨ 2 ≤ x2)) → ∀ x, (x = nI (2 ^ (if c < 2 then h * w - ec_len h w n else h * w)) → x = (1 : Int32) <<< ((nI h * nI w) &&& 31)) ∧ (r7 = if b20 = 0 then -1 else 2) := by
    intro ec _ x
    subst ec
    refine ⟨fun e => by rw [e, if_neg (by omega)]; exact t17, ?_⟩
    by_cases g : b20 = 0
    · rw [if_pos g]
      exact r70 g
    · rw [if_neg g]
      obtain ⟨i, j, hi, hj, e4, e5, e⟩ := r71 g
      rw [e, if_neg (by omega)]
      rfl
  rcases H3 with ⟨g2, g3, e1, e2, e3, e4, en, ec, e18, e19⟩ | ⟨g2, g3, e1, e2, e3, e4, ec, e18, e19⟩ | ⟨g2, g3, e1, e2, e3, e4, en, ec, e18, e19⟩ | ⟨g2, g3, e1, e2, e3, e4, e18, e19⟩
  · have k5 : r5 = -1 := by
      rcases H5 with ⟨_, e⟩ | ⟨e, _⟩
      · exact e
      · exact absurd g3 (nb n hn e)
    have k8 : r8 = -1 := by
      rcases H8 with ⟨_, e⟩ | ⟨e, _⟩
      · exact e
      · exact absurd g3 (nb n hn e)
    have lo := loose ec (Or.inl e18)
    subst e18
    subst e19
    exact ec_top (b18 := 0) (b19 := 0) (b20 := b20) (b22 := 0) (b23 := b23) hh hw (Or.inl ⟨g2, rfl⟩) (Or.inl ⟨g3, rfl⟩) e20 (Or.inl ⟨Or.inl rfl, rfl⟩) e23 (by rw [if_pos rfl]; exact e1) (by rw [if_pos rfl]; exact e2) (by rw [if_pos rfl]; exact e3) (by rw [if_pos rfl]; exact e4)
      (fun L hL => by rw [if_pos rfl]; exact k5) (fun L hL => by rw [if_pos rfl]; exact (lo _).1 rfl) (by rw [if_pos (rfl : (0 : Int32) = 0)]; exact (lo 0).2) (by rw [if_pos rfl]; exact k8) t17 hp
  · have k5 : r5 = nI (2 ^ ec_len h w n) := by
      rcases H5 with ⟨g, _⟩ | ⟨_, e⟩
      · exact absurd g (nb n hn g3)
      · rw [e, if_neg (by omega)]
    have k8 : r8 = 0 := by
      rcases H8 with ⟨g, _⟩ | ⟨_, e⟩
      · exact absurd g (nb n hn g3)
      · exact e
    have lo := loose ec (Or.inl e18)
    subst e18
    subst e19
    exact ec_top (b18 := 0) (b19 := 1) (b20 := b20) (b22 := 0) (b23 := b23) hh hw (Or.inl ⟨g2, rfl⟩) (Or.inr ⟨⟨n, hn, g3⟩, rfl⟩) e20 (Or.inl ⟨Or.inl rfl, rfl⟩) e23 (by rw [if_pos rfl]; exact e1) (by rw [if_pos rfl]; exact e2) (by rw [if_neg (by decide), if_pos rfl]; exact e3) (by rw [if_pos rfl]; exact e4)
      (fun L hL => by rw [if_neg (by decide), if_pos rfl, hL n hn g3, ec_one _ (by omega)]; exact k5) (fun L hL => by rw [if_pos rfl]; exact (lo _).1 rfl) (by rw [if_pos (rfl : (0 : Int32) = 0)]; exact (lo 0).2) (by rw [if_neg (by decide)]; exact k8) t17 hp
  · have k5 : r5 = -1 := by
      rcases H5 with ⟨_, e⟩ | ⟨e, _⟩
      · exact e
      · exact absurd g3 (nb n hn e)
    have k8 : r8 = -1 := by
      rcases H8 with ⟨_, e⟩ | ⟨e, _⟩
      · exact e
      · exact absurd g3 (nb n hn e)
    have lo := loose ec (Or.inr (Or.inl e19))
    subst e18
    subst e19
    exact ec_top (b18 := 1) (b19 := 0) (b20 := b20) (b22 := 0) (b23 := b23) hh hw (Or.inr ⟨g2, rfl⟩) (Or.inl ⟨g3, rfl⟩) e20 (Or.inl ⟨Or.inr (Or.inl rfl), rfl⟩) e23 (by rw [if_neg (by decide)]; exact e1) (by rw [if_neg (by decide)]; exact e2) (by rw [if_pos rfl]; exact e3) (by rw [if_neg (by decide), if_pos rfl]; exact e4)
      (fun L hL => by rw [if_pos rfl]; exact k5) (fun L hL => by rw [if_pos rfl]; exact (lo _).1 rfl) (by rw [if_pos (rfl : (0 : Int32) = 0)]; exact (lo 0).2) (by rw [if_pos rfl]; exact k8) t17 hp
  · have k5 : r5 = nI (if c < 2 then 1 else 2 ^ ec_len h w n) := by
      rcases H5 with ⟨g, _⟩ | ⟨_, e⟩
      · exact absurd g (nb n hn g3)
      · exact e
    have k8 : r8 = 0 := by
      rcases H8 with ⟨g, _⟩ | ⟨_, e⟩
      · exact absurd g (nb n hn g3)
      · exact e
    by_cases ec : c < 2
    · subst e18
      subst e19
      have n2 : ¬ (2 : Int32) ≤ x2 := by
        rw [g2, ec_two hc]
        omega
      rw [if_pos ec] at k5
      refine ec_top (b18 := 1) (b19 := 1) (b20 := b20) (b22 := 1) (b23 := b23) hh hw (Or.inr ⟨⟨c, hc, g2⟩, rfl⟩) (Or.inr ⟨⟨n, hn, g3⟩, rfl⟩) e20 (Or.inr ⟨by decide, by decide, n2, rfl⟩) e23 (by rw [if_neg (by decide)]; exact e1) (by rw [if_neg (by decide)]; exact e2) (by rw [if_neg (by decide), if_neg (by decide)]; exact e3) (by rw [if_neg (by decide), if_neg (by decide)]; exact e4)
        (fun L hL => by rw [if_neg (by decide), if_neg (by decide)]; exact k5) (fun L hL => ?_) ?_ (by rw [if_neg (by decide)]; exact k8) t17 hp
      · rw [if_pos ec, if_neg (by decide), hL n hn g3, pk_mul, pk_sub hlen, ec_one _ (by omega)]
      · by_cases g : b20 = 0
        · rw [if_pos g]
          exact r70 g
        · rw [if_neg g, if_neg (by decide)]
          obtain ⟨i, j, hi, hj, f4, f5, e⟩ := r71 g
          have q1 : x3 = x4 ↔ n = i := by
            rw [g3, f4]
            exact nI_eq (by omega) (by omega)
          have q2 : x3 = nI h + x5 ↔ n = h + j := by
            rw [g3, f5, nI_add]
            exact nI_eq (by omega) (by omega)
          rw [q1, q2] at e23
          rcases e23 with ⟨k, kb⟩ | ⟨k, k', kb⟩
          · rw [kb, if_neg (by decide), e, if_pos ⟨ec, k⟩, g2]
          · rw [kb, if_pos rfl, e, if_neg (by omega)]
            rfl
    · have ec2 : c = 2 := by omega
      have x22 : (2 : Int32) ≤ x2 := by
        rw [g2, ec_two hc]
        omega
      have lo := loose ec2 (Or.inr (Or.inr x22))
      subst e18
      subst e19
      rw [if_neg ec] at k5
      exact ec_top (b18 := 1) (b19 := 1) (b20 := b20) (b22 := 0) (b23 := b23) hh hw (Or.inr ⟨⟨c, hc, g2⟩, rfl⟩) (Or.inr ⟨⟨n, hn, g3⟩, rfl⟩) e20 (Or.inl ⟨Or.inr (Or.inr x22), rfl⟩) e23 (by rw [if_neg (by decide)]; exact e1) (by rw [if_neg (by decide)]; exact e2) (by rw [if_neg (by decide), if_neg (by decide)]; exact e3) (by rw [if_neg (by decide), if_neg (by decide)]; exact e4)
        (fun L hL => by rw [if_neg (by decide), if_pos rfl, hL n hn g3, ec_one _ (by omega)]; exact k5) (fun L hL => by rw [if_pos rfl]; exact (lo _).1 rfl) (by rw [if_pos (rfl : (0 : Int32) = 0)]; exact (lo 0).2) (by rw [if_neg (by decide)]; exact k8) t17 hp
theorem ec_depthU {post : Int32 → Prop} {h w : Nat} {fh fp fd ff fu fa fo : Int32} {a1 a2 a3 a4 a5 a6 a7 a8 a9 a10 a11 a12 a13 a14 a15 a16 a17 a18 a19 a20 a21 : Nat → Int32} (hp : post fh) : wpX_depth post ((nI h), (nI w), (nI (h + w)), (nI (h * w)), fh, fp, fd, ff, fu, fa, fo, a1, a2, a3, a4, a5, a6, a7, a8, a9, a10, a11, a12, a13, a14, a15, a16, a17, a18, a19, a20, a21) := hp
theorem ec_law40 {post : Int32 → St0 → Prop} {x0 x1 x2 x3 x4 x5 : Int32} {h w : Nat} (c0 : ec_cl x0 3 h) (c1 : ec_cl x1 4 w) (hp : post 1 ()) : wL_lawOf_40 post 22 290 x0 x1 x2 x3 x4 x5 (nI h) (nI w) 0 0 := by
  unfold wL_lawOf_40
  refine ⟨by decide, by decide, 21, 258, by decide, by decide, ?_⟩
  refine ec_init c0 c1 (fun a1 a2 a3 a11 a12 a13 a14 a15 a16 K => ?_)
  refine ec_letterU (fun r1 fh fp a4 a5 a6 a7 a8 a9 H1 => ?_)
  refine ec_starU H1 (fun r2 a7 a9 H2 => ?_)
  refine ec_setU H2 K (fun n c b18 b19 r3 fh fp a11 a12 a13 a14 a15 a16 hn hc H3 K => ?_)
  have hb : ((x3 < 0 ∨ nI (h + w) ≤ x3) ∧ c = 2) ∨ x3 = nI n := by
    rcases H3 with ⟨g2, g3, e1, e2, e3, e4, en, ec, e18, e19⟩ | ⟨g2, g3, e1, e2, e3, e4, ec, e18, e19⟩ | ⟨g2, g3, e1, e2, e3, e4, en, ec, e18, e19⟩ | ⟨g2, g3, e1, e2, e3, e4, e18, e19⟩
    · exact Or.inl ⟨g3, ec⟩
    · exact Or.inr g3
    · exact Or.inl ⟨g3, ec⟩
    · exact Or.inr g3
  have h02 : 0 < h + w := by
    have := c0.1
    omega
  have T1 := ec_T1 h (by have := c0.2.1; omega) w (by have := c1.2.1; omega) n hn c hc
  have T2 := ec_T2 h (by have := c0.2.1; omega) w (by have := c1.2.1; omega) n hn c hc
  have U1 := ec_T1 h (by have := c0.2.1; omega) w (by have := c1.2.1; omega) 0 h02 2 (by omega)
  have U2 := ec_T2 h (by have := c0.2.1; omega) w (by have := c1.2.1; omega) 0 h02 2 (by omega)
  rw [if_neg (by omega)] at U1
  refine ec_depthU ?_
  refine ec_wordsU K hn hc (hb.imp (fun g => g.1) id) (fun r5 fd a17 hr H5 => ?_)
  refine ec_fillings K hr (ec_hc h w n c) (ec_T5 c0.2.1 c1.2.1 hn hc) T2 (fun ff fu fa fo a17 hr a18 a19 a20 a21 => ?_)
  refine ec_forcedU K hn hc (Or.inr ⟨rfl, hr⟩) (fun r7 fd ff fu fa fo a17 a18 a19 a20 a21 hr H7 => ?_)
  refine ec_freeU K hn hr hb (fun r8 fd a11 a12 a13 a14 a15 a16 hr K H8 => ?_)
  refine ec_fillings K hr (ec_hc h w 0 2) (ec_T5 c0.2.1 c1.2.1 h02 (by omega)) U2 (fun ff fu fa fo a17 hr a18 a19 a20 a21 => ?_)
  rw [T1, U1]
  exact ec_fin c0.1 c0.2.1 c1.1 c1.2.1 hn hc H3 H5 H7 H8 hp
theorem ec_lawOf {post : Int32 → St0 → Prop} (p0 p1 p2 p3 p4 p5 : Int32) (hp : post 1 ()) : wpL_lawOf post 22 290 () p0 p1 p2 p3 p4 p5 := by
  obtain ⟨h, c0⟩ := ec_cl_ex p0 3 (by omega) (by omega)
  obtain ⟨w, c1⟩ := ec_cl_ex p1 4 (by omega) (by omega)
  have go : wL_lawOf_19 post 22 290 p0 p1 p2 p3 p4 p5 (nI h) 0 0 := ec_clA (P := fun x => wL_lawOf_40 post 22 290 p0 p1 p2 p3 p4 p5 (nI h) x 0 0) c1 (ec_law40 c0 c1 hp)
  exact ec_clA (P := fun x => wL_lawOf_19 post 22 290 p0 p1 p2 p3 p4 p5 x 0 0) c0 go
theorem ec_cellAt {post : Int32 → Prop} {L : Nat} {xs : Nat → Int32} (hL : L ≤ 6) (i : Nat) (hi : i < 6) (hp : ∀ r, post r) : wpL_cellAt post L xs () (nI i) :=
  pk_le L i (fun _ => hp _) (fun e => ⟨pk_in i L e, hp _⟩)
theorem i_vc (xs : Nat → Int32) (L : Nat) (hL : L ≤ 6) : wpL_law (fun r => r = 1) L xs := by
  unfold wpL_law
  refine ec_cellAt hL 0 (by omega) (fun r1 => ?_)
  refine ec_cellAt hL 1 (by omega) (fun r2 => ?_)
  refine ec_cellAt hL 2 (by omega) (fun r3 => ?_)
  refine ec_cellAt hL 3 (by omega) (fun r4 => ?_)
  refine ec_cellAt hL 4 (by omega) (fun r5 => ?_)
  refine ec_cellAt hL 5 (by omega) (fun r6 => ?_)
  exact ⟨22, 290, by decide, by decide, ec_lawOf r1 r2 r3 r4 r5 r6 rfl⟩
end
