section
theorem pk_us {f : Nat → Int32} {k : Nat} {x : Int32} : upd f k x k = x := if_pos rfl
theorem pk_un {f : Nat → Int32} {k j : Nat} {x : Int32} (h : j ≠ k) : upd f k x j = f j := if_neg h
theorem pk_sub {a b : Nat} (h : b ≤ a) : nI a - nI b = nI (a - b) := by
  obtain ⟨c, rfl⟩ : ∃ c, a = c + b := ⟨a - b, by omega⟩
  rw [← nI_add, Int32.add_sub_cancel, Nat.add_sub_cancel]
theorem pk_m1 (n : Nat) : nI (n + 1) + (-1) = nI n := by
  rw [← nI_1, Int32.add_assoc, show (1 : Int32) + (-1) = 0 from rfl, Int32.add_zero]
theorem pk_mul (a b : Nat) : nI a * nI b = nI (a * b) := (Int32.ofNat_mul a b).symm
theorem pk_sub_toInt {a b : Nat} (ha : a < 2 ^ 30) (hb : b < 2 ^ 30) : (nI a - nI b).toInt = (a : Int) - b := by
  rw [Int32.toInt_sub, nI_toInt (by omega), nI_toInt (by omega)]
  exact Int.bmod_eq_of_le (by omega) (by omega)
theorem pk_sneg {a b : Nat} (hb : b < 2 ^ 30) (h : a < b) : nI a - nI b < 0 := by
  rw [Int32.lt_iff_toInt_lt, pk_sub_toInt (by omega) hb, show (0 : Int32).toInt = 0 from by decide]
  omega
theorem pk_ix (x : Int32) {n : Nat} (hn : n < 2 ^ 31) : x < 0 ∨ nI n ≤ x ∨ ∃ j : Nat, j < n ∧ x = nI j := by
  by_cases h : x < 0
  · exact Or.inl h
  · obtain ⟨j, hj, rfl⟩ := nI_of h
    by_cases h2 : j < n
    · exact Or.inr (Or.inr ⟨j, h2, rfl⟩)
    · exact Or.inr (Or.inl (nI_le (by omega) hj))
theorem pk_le {x y : Int32} {A B : Prop} (a b : Nat) (f : a ≤ b → A) (g : b < a → B) (hx : x = nI a := by rfl) (hy : y = nI b := by rfl) (ha : a < 2 ^ 31 := by omega) (hb : b < 2 ^ 31 := by omega) : (x ≤ y → A) ∧ (¬ x ≤ y → B) := by
  subst hx hy
  rw [nI_leI ha hb]
  exact ⟨f, fun z => g (by omega)⟩
theorem pk_lt {x y : Int32} {A B : Prop} (a b : Nat) (f : a < b → A) (g : b ≤ a → B) (hx : x = nI a := by rfl) (hy : y = nI b := by rfl) (ha : a < 2 ^ 31 := by omega) (hb : b < 2 ^ 31 := by omega) : (x < y → A) ∧ (¬ x < y → B) := by
  subst hx hy
  rw [nI_ltI ha hb]
  exact ⟨f, fun z => g (by omega)⟩
theorem pk_eq {x y : Int32} {A B : Prop} (a b : Nat) (f : a = b → A) (g : a ≠ b → B) (hx : x = nI a := by rfl) (hy : y = nI b := by rfl) (ha : a < 2 ^ 31 := by omega) (hb : b < 2 ^ 31 := by omega) : (x = y → A) ∧ (¬ x = y → B) := by
  subst hx hy
  rw [nI_eq ha hb]
  exact ⟨f, g⟩
theorem pk_in {x : Int32} (n N : Nat) (h : n < N) (hx : x = nI n := by rfl) (hN : N < 2 ^ 31 := by omega) : vp_in x N := by
  subst hx
  exact vp_in_nI h hN
theorem pk_cl {x : Int32} (n : Nat) (hx : x = nI n := by rfl) (h : n < 2 ^ 31 := by omega) : x.toNatClampNeg = n := by
  subst hx
  exact nI_clamp h
theorem pk_tn {n : Nat} (h : n < 2 ^ 32) : (nI n).toBitVec.toNat = n := Nat.mod_eq_of_lt h
theorem pk_and (x : Int32) {m : Int32} (k : Nat) (hm : m.toBitVec.toNat = 2 ^ k - 1) : x &&& m = nI (x.toBitVec.toNat % 2 ^ k) := by
  apply Int32.toBitVec_inj.mp
  apply BitVec.eq_of_toNat_eq
  rw [Int32.toBitVec_and, BitVec.toNat_and, hm, Nat.and_two_pow_sub_one_eq_mod]
  show _ = (BitVec.ofNat 32 _).toNat
  rw [BitVec.toNat_ofNat]
  exact (Nat.mod_eq_of_lt (Nat.lt_of_le_of_lt (Nat.mod_le _ _) x.toBitVec.isLt)).symm
theorem pk_andN {n : Nat} (h : n < 2 ^ 32) {m : Int32} (k : Nat) (hm : m.toBitVec.toNat = 2 ^ k - 1) : nI n &&& m = nI (n % 2 ^ k) := by
  rw [pk_and _ k hm, pk_tn h]
theorem pk_andE (x : Int32) {m : Int32} (k : Nat) (hm : m.toBitVec.toNat = 2 ^ k - 1) : ∃ j : Nat, j < 2 ^ k ∧ x &&& m = nI j := ⟨_, Nat.mod_lt _ (Nat.two_pow_pos k), pk_and x k hm⟩
theorem pk_andIn (x : Int32) {m : Int32} (k : Nat) (hm : m.toBitVec.toNat = 2 ^ k - 1) (hk : k ≤ 30) : vp_in (x &&& m) (2 ^ k) := by
  obtain ⟨j, hj, e⟩ := pk_andE x k hm
  rw [e]
  exact vp_in_nI hj (Nat.lt_of_le_of_lt (Nat.pow_le_pow_right (by decide) hk) (by decide))
theorem pk_shr (a s : Int32) (k : Nat) (hs : (s.toBitVec.smod 32).toNat = k) : (a >>> s).toInt = a.toInt >>> k := by
  show (a.toBitVec.sshiftRight (s.toBitVec.smod 32).toNat).toInt = _
  rw [hs, BitVec.toInt_sshiftRight]
  rfl
theorem pk_shrN {n : Nat} (h : n < 2 ^ 31) (s : Int32) (k : Nat) (hs : (s.toBitVec.smod 32).toNat = k) : nI n >>> s = nI (n / 2 ^ k) := by
  apply Int32.toInt_inj.mp
  have h2 : n / 2 ^ k ≤ n := Nat.div_le_self _ _
  rw [pk_shr _ _ k hs, nI_toInt h, nI_toInt (by omega), Int.shiftRight_eq_div_pow]
  rfl
end
section
/-! the program as bytes, heads, layout: pure -/
def dh_len (k : Nat) : Nat := if k = 0 ∨ k = 7 then 1 else if k = 5 then 3 else 2
def dh_rl (k : Nat) : Nat := if k = 0 ∨ k = 7 then 1 else if k = 4 ∨ k = 6 then 3 else if k = 5 ∨ k = 8 then 4 else 2
def dh_sg (b : Nat) : Int32 := if b ≤ 127 then nI b else nI b - 256
def dh_tg (p : Nat → Nat) (x : Nat) : Int32 := nI (x + dh_len (p x)) + dh_sg (p (x + dh_len (p x) - 1))
def dh_tgt (p : Nat → Nat) (x : Nat) : Int32 := if 4 ≤ p x ∧ p x ≤ 6 then dh_tg p x else -1000
def dh_In (L : Nat) (p : Nat → Nat) (B : Nat → Int32) (x : Nat) : Prop :=
  p x ≤ 8 ∧ x + dh_len (p x) ≤ L ∧ (∀ y, x < y → y < x + dh_len (p x) → B y = 0) ∧ (x + dh_len (p x) < L → B (x + dh_len (p x)) ≠ 0) ∧ (p x = 1 ∨ p x = 2 ∨ p x = 5 ∨ p x = 8 → p (x + 1) < 4) ∧ (p x = 3 → p (x + 1) < 16)
def dh_WF (L : Nat) (p : Nat → Nat) (B : Nat → Int32) : Prop := L ≤ 64 ∧ (∀ x, p x < 256) ∧ ∀ x, x < L → B x ≠ 0 → dh_In L p B x
def dh_hg (p : Nat → Nat) (a : Nat) : Nat → Nat → Nat
  | 0, n => n
  | f + 1, n => if 3 ≤ n then n else dh_hg p a f (n + dh_len (p (a + n)))
def dh_hd (p : Nat → Nat) (a : Nat) : Nat := dh_hg p a 3 0
def dh_O (p : Nat → Nat) (B : Nat → Int32) : Nat → Nat
  | 0 => 0
  | x + 1 => dh_O p B x + (if B x = 0 then 0 else dh_rl (p x))
def dh_q (p : Nat → Nat) (B : Nat → Int32) (h a x : Nat) : Nat := 16 * h + 2 + (dh_O p B x - dh_O p B a)
def dh_Ad (A : Nat → Int32) (i : Nat) (t : Int32) : Prop := A i * 256 + A (i + 1) - 256 = t
theorem dh_len_b (k : Nat) : 1 ≤ dh_len k ∧ dh_len k ≤ 3 := by
  unfold dh_len
  repeat' split
  all_goals omega
theorem dh_rl_b (k : Nat) : 1 ≤ dh_rl k ∧ dh_rl k ≤ 2 * dh_len k := by
  unfold dh_rl dh_len
  repeat' split
  all_goals omega
theorem dh_k9 {k : Nat} (h : k ≤ 8) : k = 0 ∨ k = 1 ∨ k = 2 ∨ k = 3 ∨ k = 4 ∨ k = 5 ∨ k = 6 ∨ k = 7 ∨ k = 8 := by omega
theorem dh_O_gap (p : Nat → Nat) (B : Nat → Int32) (x : Nat) : ∀ d, (∀ y, x ≤ y → y < x + d → B y = 0) → dh_O p B (x + d) = dh_O p B x := by
  intro d
  induction d with
  | zero => intro _; rfl
  | succ d ih =>
    intro h
    show dh_O p B (x + d) + (if B (x + d) = 0 then 0 else dh_rl (p (x + d))) = _
    rw [if_pos (h (x + d) (by omega) (by omega)), ih (fun y h1 h2 => h y h1 (by omega))]
    rfl
theorem dh_O_mono (p : Nat → Nat) (B : Nat → Int32) (x : Nat) : ∀ d, dh_O p B x ≤ dh_O p B (x + d) := by
  intro d
  induction d with
  | zero => exact Nat.le_refl _
  | succ d ih =>
    show _ ≤ dh_O p B (x + d) + (if B (x + d) = 0 then 0 else dh_rl (p (x + d)))
    omega
theorem dh_O_le (p : Nat → Nat) (B : Nat → Int32) {x y : Nat} (h : x ≤ y) : dh_O p B x ≤ dh_O p B y := by
  have := dh_O_mono p B x (y - x)
  rwa [show x + (y - x) = y by omega] at this
theorem dh_O_next {L : Nat} {p : Nat → Nat} {B : Nat → Int32} {x : Nat} (I : dh_In L p B x) (hb : B x ≠ 0) : dh_O p B (x + dh_len (p x)) = dh_O p B x + dh_rl (p x) := by
  have hl := dh_len_b (p x)
  have e : x + dh_len (p x) = (x + 1) + (dh_len (p x) - 1) := by omega
  rw [e, dh_O_gap p B (x + 1) _ (fun y h1 h2 => I.2.2.1 y (by omega) (by omega))]
  show dh_O p B x + (if B x = 0 then 0 else dh_rl (p x)) = _
  rw [if_neg hb]
theorem dh_hg_le (p : Nat → Nat) (a : Nat) : ∀ f n, n ≤ dh_hg p a f n := by
  intro f
  induction f with
  | zero => intro n; exact Nat.le_refl _
  | succ f ih =>
    intro n
    show n ≤ if 3 ≤ n then n else dh_hg p a f (n + dh_len (p (a + n)))
    split
    · exact Nat.le_refl _
    · exact Nat.le_trans (Nat.le_add_right _ _) (ih _)
theorem dh_hg_lt (p : Nat → Nat) (a f n : Nat) (h : ¬ 3 ≤ n) : dh_hg p a (f + 1) n = dh_hg p a f (n + dh_len (p (a + n))) := if_neg h
theorem dh_hg_ge (p : Nat → Nat) (a f n : Nat) (h : 3 ≤ n) : dh_hg p a f n = n := by
  cases f with
  | zero => rfl
  | succ f => exact if_pos h
/-- a place a + n on the way through a head -/
def dh_Gd (L : Nat) (p : Nat → Nat) (B : Nat → Int32) (a n : Nat) : Prop :=
  a + n ≤ L ∧ (a + n < L → B (a + n) ≠ 0) ∧ n ≤ 5 ∧ dh_O p B (a + n) ≤ dh_O p B a + 2 * n ∧ dh_O p B a ≤ dh_O p B (a + n)
theorem dh_Gd_0 {L : Nat} {p : Nat → Nat} {B : Nat → Int32} {a : Nat} (ha : a + 3 ≤ L) (hb : B a ≠ 0) : dh_Gd L p B a 0 :=
  ⟨by omega, fun _ => hb, by omega, Nat.le_add_right _ _, Nat.le_refl _⟩
theorem dh_Gd_s {L : Nat} {p : Nat → Nat} {B : Nat → Int32} {a n : Nat} (W : dh_WF L p B) (ha : a + 3 ≤ L) (G : dh_Gd L p B a n) (hn : ¬ 3 ≤ n) : dh_Gd L p B a (n + dh_len (p (a + n))) := by
  obtain ⟨g1, g2, g3, g4, g5⟩ := G
  have hb := g2 (by omega)
  have I := W.2.2 (a + n) (by omega) hb
  have hl := dh_len_b (p (a + n))
  have hr := dh_rl_b (p (a + n))
  have ho := dh_O_next I hb
  obtain ⟨i1, i2, i3, i4, i5⟩ := I
  have e : a + (n + dh_len (p (a + n))) = a + n + dh_len (p (a + n)) := by omega
  unfold dh_Gd
  rw [e, ho]
  exact ⟨i2, i4, by omega, by omega, by omega⟩
theorem dh_hg_Gd {L : Nat} {p : Nat → Nat} {B : Nat → Int32} {a : Nat} (W : dh_WF L p B) (ha : a + 3 ≤ L) : ∀ f n, dh_Gd L p B a n → 3 ≤ n + f → dh_Gd L p B a (dh_hg p a f n) ∧ 3 ≤ dh_hg p a f n := by
  intro f
  induction f with
  | zero => intro n G h; exact ⟨G, h⟩
  | succ f ih =>
    intro n G h
    by_cases hn : 3 ≤ n
    · rw [dh_hg_ge p a _ n hn]; exact ⟨G, hn⟩
    · rw [dh_hg_lt p a f n hn]
      have hl := dh_len_b (p (a + n))
      exact ih _ (dh_Gd_s W ha G hn) (by omega)
theorem dh_hd_Gd {L : Nat} {p : Nat → Nat} {B : Nat → Int32} {a : Nat} (W : dh_WF L p B) (ha : a + 3 ≤ L) (hb : B a ≠ 0) : dh_Gd L p B a (dh_hd p a) ∧ 3 ≤ dh_hd p a :=
  dh_hg_Gd W ha 3 0 (dh_Gd_0 ha hb) (by omega)
theorem dh_hd_in {L : Nat} {p : Nat → Nat} {B : Nat → Int32} {a x : Nat} (W : dh_WF L p B) (ha : a + 3 ≤ L) (hb : B a ≠ 0) (h1 : a ≤ x) (h2 : x < a + dh_hd p a) (hx : B x ≠ 0) : x < L ∧ x + dh_len (p x) ≤ a + dh_hd p a ∧ (x + dh_len (p x) < a + dh_hd p a → B (x + dh_len (p x)) ≠ 0) := by
  obtain ⟨⟨g1, g2, g3, g4⟩, g5⟩ := dh_hd_Gd W ha hb
  have hL : x < L := by omega
  obtain ⟨i1, i2, i3, i4, i5⟩ := W.2.2 x hL hx
  refine ⟨hL, ?_, fun h => i4 (by omega)⟩
  by_cases h : x + dh_len (p x) ≤ a + dh_hd p a
  · exact h
  · exact absurd (i3 (a + dh_hd p a) h2 (by omega)) (g2 (by omega))
theorem dh_q_s {L : Nat} {p : Nat → Nat} {B : Nat → Int32} {h a x : Nat} (W : dh_WF L p B) (h1 : a ≤ x) (hL : x < L) (hx : B x ≠ 0) : dh_q p B h a (x + dh_len (p x)) = dh_q p B h a x + dh_rl (p x) := by
  have := dh_O_le p B h1
  unfold dh_q
  rw [dh_O_next (W.2.2 x hL hx) hx]
  omega
theorem dh_q_a (p : Nat → Nat) (B : Nat → Int32) (h a : Nat) : dh_q p B h a a = 16 * h + 2 := by
  unfold dh_q
  omega
theorem dh_q_le {L : Nat} {p : Nat → Nat} {B : Nat → Int32} {h a x : Nat} (W : dh_WF L p B) (ha : a + 3 ≤ L) (hb : B a ≠ 0) (h2 : x ≤ a + dh_hd p a) : dh_q p B h a x ≤ 16 * h + 12 := by
  obtain ⟨⟨g1, g2, g3, g4⟩, g5⟩ := dh_hd_Gd W ha hb
  have := dh_O_le p B h2
  unfold dh_q
  omega
theorem dh_q_ge (p : Nat → Nat) (B : Nat → Int32) (h a x : Nat) : 16 * h + 2 ≤ dh_q p B h a x := by
  unfold dh_q
  omega
theorem dh_adr (w : Nat) (hw : w < 65536) : (nI w >>> ((8 : Int32) &&& 31)) * 256 + (nI w &&& 255) - 256 = nI w - 256 := by
  rw [pk_shrN (by omega) _ 8 (by decide), pk_andN (by omega) 8 (by decide), show (256 : Int32) = nI 256 from rfl, pk_mul, nI_add, show w / 2 ^ 8 * 256 + w % 2 ^ 8 = w by omega]
theorem dh_sg_w {n b : Nat} (hn : n ≤ 64) (hb : b < 256) : ∃ w, w < 448 ∧ nI n + dh_sg b = nI w - 256 := by
  unfold dh_sg
  split
  · refine ⟨n + b + 256, by omega, ?_⟩
    rw [← nI_add (n + b) 256, ← nI_add n b, show nI 256 = (256 : Int32) from rfl, Int32.add_sub_cancel]
  · refine ⟨n + b, by omega, ?_⟩
    rw [← nI_add n b, Int32.sub_eq_add_neg, Int32.sub_eq_add_neg, Int32.add_assoc]
theorem dh_tg_w {L : Nat} {p : Nat → Nat} {B : Nat → Int32} (W : dh_WF L p B) {x : Nat} (hx : x < L) (hb : B x ≠ 0) : ∃ w, w < 448 ∧ dh_tg p x = nI w - 256 := by
  have I := W.2.2 x hx hb
  exact dh_sg_w (by have := I.2.1; have := W.1; omega) (W.2.1 _)
theorem dh_sub_i {w : Nat} (hw : w < 65536) : (nI w - 256).toInt = (w : Int) - 256 := by
  have := pk_sub_toInt (a := w) (b := 256) (by omega) (by omega)
  exact this
theorem dh_nI_w (x : Nat) : nI x = nI (x + 256) - 256 := by
  rw [← nI_add x 256, show nI 256 = (256 : Int32) from rfl, Int32.add_sub_cancel]
end
section
/-! X's small methods -/
def dh_cx (H : Nat → Int32) : Nat → Nat
  | 0 => 0
  | h + 1 => dh_cx H h + (if H h < 0 then 0 else 1)
theorem dh_cx_n {H : Nat → Int32} {h : Nat} (z : H h < 0) : dh_cx H (h + 1) = dh_cx H h := by
  show dh_cx H h + (if H h < 0 then 0 else 1) = _
  rw [if_pos z]
  rfl
theorem dh_cx_p {H : Nat → Int32} {h : Nat} (z : ¬ H h < 0) : dh_cx H (h + 1) = dh_cx H h + 1 := by
  show dh_cx H h + (if H h < 0 then 0 else 1) = _
  rw [if_neg z]
def dh_am (p : Nat → Nat) (B : Nat → Int32) (a n x : Nat) : Prop := B x ≠ 0 ∧ ¬ dh_tgt p x ≤ nI a ∧ ¬ nI (a + n) ≤ dh_tgt p x
def dh_mt (H N : Nat → Int32) (a n h : Nat) : Prop := ¬ H h < 0 ∧ ¬ H h + N h ≤ nI a ∧ ¬ nI (a + n) ≤ H h
section
variable {f_length f_writeAt f_stacked f_pc f_done f_end : Int32} {a_plain a_code a_starts a_moved a_area a_hookAt a_headLength a_count a_reg a_stack : Nat → Int32} {p : Nat → Nat} {L : Nat} {post : Int32 → Prop} {postS : SX → Prop}
theorem dx_badReg {v : Int32} (h1 : ∀ r, r < 4 → v = nI r → post 0) (h2 : (∀ r, r < 4 → v ≠ nI r) → post 1) : wpX_badReg post (f_length, f_writeAt, f_stacked, f_pc, f_done, f_end, a_plain, a_code, a_starts, a_moved, a_area, a_hookAt, a_headLength, a_count, a_reg, a_stack) v := by
  refine br_c (fun h => h2 ?_) (fun h => br_c (fun h' => ?_) (fun h' => h2 ?_))
  · intro r hr e
    subst e
    exact nI_pos (by omega) h
  · obtain ⟨j, hj, rfl⟩ := nI_of2 (M := 3) (n := 3) (by decide) h h'
    exact h1 j (by omega) rfl
  · intro r hr e
    subst e
    exact h' (nI_le (b := 3) (by omega) (by decide))
theorem dx_badTarget {v : Int32} (h1 : -128 ≤ v.toInt → v.toInt ≤ 127 → post 0) (h2 : ¬ (-128 ≤ v.toInt ∧ v.toInt ≤ 127) → post 1) : wpX_badTarget post (f_length, f_writeAt, f_stacked, f_pc, f_done, f_end, a_plain, a_code, a_starts, a_moved, a_area, a_hookAt, a_headLength, a_count, a_reg, a_stack) v := by
  have e1 : (-128 : Int32).toInt = -128 := by decide
  have e2 : (127 : Int32).toInt = 127 := by decide
  refine br_c (fun h => h2 ?_) (fun h => br_c (fun h' => h1 ?_ ?_) (fun h' => h2 ?_))
  all_goals simp only [Int32.lt_iff_toInt_lt, Int32.le_iff_toInt_le, e1, e2] at *
  all_goals omega
theorem dx_asByte {v : Int32} {b : Nat} (e1 : 0 ≤ v → v = nI b) (e2 : ¬ 0 ≤ v → v + 256 = nI b) (h : post (nI b)) : wpX_asByte post (f_length, f_writeAt, f_stacked, f_pc, f_done, f_end, a_plain, a_code, a_starts, a_moved, a_area, a_hookAt, a_headLength, a_count, a_reg, a_stack) v := by
  refine br_c (fun z => ?_) (fun z => ?_)
  · rw [e1 z]; exact h
  · rw [e2 z]; exact h
theorem dx_lengthOf {k : Nat} (hk : k < 256) (h : post (nI (dh_len k))) : wpX_lengthOf post (f_length, f_writeAt, f_stacked, f_pc, f_done, f_end, a_plain, a_code, a_starts, a_moved, a_area, a_hookAt, a_headLength, a_count, a_reg, a_stack) (nI k) := by
  refine pk_eq k 0 (fun e => ?_) (fun n0 => pk_eq k 7 (fun e => ?_) (fun n7 => pk_eq k 5 (fun e => ?_) (fun n5 => ?_)))
  · rw [dh_len, if_pos (Or.inl e)] at h; exact h
  · rw [dh_len, if_pos (Or.inr e)] at h; exact h
  · rw [dh_len, if_neg (by omega), if_pos e] at h; exact h
  · rw [dh_len, if_neg (by omega), if_neg n5] at h; exact h
theorem dx_hooks_l (hp : post (nI (dh_cx a_hookAt 4))) : ∀ d i, i + d = 4 → wX_hooks_4 post f_length f_writeAt f_stacked f_pc f_done f_end a_plain a_code a_starts a_moved a_area a_hookAt a_headLength a_count a_reg a_stack (d + 1) (nI (dh_cx a_hookAt i)) (nI i) := by
  intro d
  induction d with
  | zero =>
    intro i h
    obtain rfl : i = 4 := by omega
    exact br_t (by decide) hp
  | succ d ih =>
    intro i h
    have ih := ih (i + 1) (by omega)
    have e : (nI i).toNatClampNeg = i := nI_clamp (by omega)
    refine br_f (nI_ge (b := 4) (by omega) (by decide)) ⟨vp_in_nI (by omega) (by decide), br_c (fun hn => nm_r (nI_1 i) ?_) (fun hn => nm_r (nI_1 _) (nm_r (nI_1 i) ?_))⟩
    · rw [e] at hn
      rw [dh_cx_n hn] at ih
      exact ih
    · rw [e] at hn
      rw [dh_cx_p hn] at ih
      exact ih
theorem dx_hooks (hp : post (nI (dh_cx a_hookAt 4))) : wpX_hooks post (f_length, f_writeAt, f_stacked, f_pc, f_done, f_end, a_plain, a_code, a_starts, a_moved, a_area, a_hookAt, a_headLength, a_count, a_reg, a_stack) := Exists.intro 5 (dx_hooks_l hp 4 0 rfl)
theorem dx_slotOf_l {v : Int32} (h0 : (∀ h, h < 4 → a_hookAt h ≠ v) → post (-1)) (h1 : ∀ h, h < 4 → a_hookAt h = v → post (nI h)) : ∀ d i x2, i + d = 4 → ((x2 = -1 ∧ ∀ h, h < i → a_hookAt h ≠ v) ∨ ∃ h, h < 4 ∧ a_hookAt h = v ∧ x2 = nI h) → wX_slotOf_4 post v f_length f_writeAt f_stacked f_pc f_done f_end a_plain a_code a_starts a_moved a_area a_hookAt a_headLength a_count a_reg a_stack (d + 1) x2 (nI i) := by
  intro d
  induction d with
  | zero =>
    intro i x2 h I
    obtain rfl : i = 4 := by omega
    refine br_t (by decide) ?_
    rcases I with ⟨rfl, I⟩ | ⟨h, hh, e, rfl⟩
    · exact h0 I
    · exact h1 h hh e
  | succ d ih =>
    intro i x2 h I
    have e : (nI i).toNatClampNeg = i := nI_clamp (by omega)
    refine br_f (nI_ge (b := 4) (by omega) (by decide)) ⟨vp_in_nI (by omega) (by decide), br_c (fun hn => nm_r (nI_1 i) ?_) (fun hn => nm_r (nI_1 i) ?_)⟩
    · rw [e] at hn
      exact ih (i + 1) _ (by omega) (Or.inr ⟨i, by omega, hn, rfl⟩)
    · rw [e] at hn
      refine ih (i + 1) _ (by omega) ?_
      rcases I with ⟨rfl, I⟩ | I
      · exact Or.inl ⟨rfl, lt_s I hn⟩
      · exact Or.inr I
theorem dx_slotOf {v : Int32} (h0 : (∀ h, h < 4 → a_hookAt h ≠ v) → post (-1)) (h1 : ∀ h, h < 4 → a_hookAt h = v → post (nI h)) : wpX_slotOf post (f_length, f_writeAt, f_stacked, f_pc, f_done, f_end, a_plain, a_code, a_starts, a_moved, a_area, a_hookAt, a_headLength, a_count, a_reg, a_stack) v :=
  Exists.intro 5 (dx_slotOf_l h0 h1 4 0 (-1) rfl (Or.inl ⟨rfl, fun h hh => absurd hh (by omega)⟩))
theorem dx_headOf_l {a : Nat} (hP : ∀ x, a_plain x = nI (p x)) (hb : ∀ x, p x < 256) (ha : a + 3 ≤ 64) : ∀ d i n, i + d = 3 → n < 100 → post (nI (dh_hg p a d n)) → wX_headOf_4 post (nI a) f_length f_writeAt f_stacked f_pc f_done f_end a_plain a_code a_starts a_moved a_area a_hookAt a_headLength a_count a_reg a_stack (d + 1) (nI n) (nI i) := by
  intro d
  induction d with
  | zero =>
    intro i n h hn hp
    obtain rfl : i = 3 := by omega
    exact br_t (by decide) hp
  | succ d ih =>
    intro i n h hn hp
    refine br_f (nI_ge (b := 3) (by omega) (by decide)) (pk_le 3 n (fun h3 => ?_) (fun h3 => ?_))
    · rw [dh_hg_ge p a _ n h3] at hp
      exact hp
    · rw [dh_hg_lt p a _ n (by omega)] at hp
      have e : a_plain (nI a + nI n).toNatClampNeg = nI (p (a + n)) := by rw [nI_add, nI_clamp (by omega), hP]
      refine ⟨by rw [nI_add]; exact vp_in_nI (by omega) (by decide), ?_⟩
      rw [e]
      have hl := dh_len_b (p (a + n))
      exact dx_lengthOf (hb _) (nm_r (nI_add _ _) (nm_r (nI_1 i) (ih (i + 1) _ (by omega) (by omega) hp)))
theorem dx_headOf {a : Nat} (hP : ∀ x, a_plain x = nI (p x)) (hb : ∀ x, p x < 256) (ha : a + 3 ≤ 64) (hp : post (nI (dh_hd p a))) : wpX_headOf post (f_length, f_writeAt, f_stacked, f_pc, f_done, f_end, a_plain, a_code, a_starts, a_moved, a_area, a_hookAt, a_headLength, a_count, a_reg, a_stack) (nI a) :=
  Exists.intro 4 (dx_headOf_l hP hb ha 3 0 0 rfl (by omega) hp)
theorem dx_meets_l {a n : Nat} (h0 : (∀ h, h < 4 → ¬ dh_mt a_hookAt a_headLength a n h) → post 0) (h1 : ∀ h, h < 4 → dh_mt a_hookAt a_headLength a n h → post 1) : ∀ d i x3, i + d = 4 → ((x3 = 0 ∧ ∀ h, h < i → ¬ dh_mt a_hookAt a_headLength a n h) ∨ (x3 = 1 ∧ ∃ h, h < 4 ∧ dh_mt a_hookAt a_headLength a n h)) → wX_meetsHead_5 post (nI a) (nI n) f_length f_writeAt f_stacked f_pc f_done f_end a_plain a_code a_starts a_moved a_area a_hookAt a_headLength a_count a_reg a_stack (d + 1) x3 (nI i) := by
  intro d
  induction d with
  | zero =>
    intro i x3 h I
    obtain rfl : i = 4 := by omega
    refine br_t (by decide) ?_
    rcases I with ⟨rfl, I⟩ | ⟨rfl, h, hh, e⟩
    · exact ⟨rfl, h0 I⟩
    · exact ⟨rfl, h1 h hh e⟩
  | succ d ih =>
    intro i x3 h I
    have e : (nI i).toNatClampNeg = i := nI_clamp (by omega)
    have hi : vp_in (nI i) 4 := vp_in_nI (by omega) (by decide)
    have no : ¬ dh_mt a_hookAt a_headLength a n i → wX_meetsHead_5 post (nI a) (nI n) f_length f_writeAt f_stacked f_pc f_done f_end a_plain a_code a_starts a_moved a_area a_hookAt a_headLength a_count a_reg a_stack (d + 1) x3 (nI (i + 1)) := by
      intro hn
      refine ih (i + 1) _ (by omega) ?_
      rcases I with ⟨rfl, I⟩ | I
      · exact Or.inl ⟨rfl, lt_s I hn⟩
      · exact Or.inr I
    refine br_f (nI_ge (b := 4) (by omega) (by decide)) ⟨hi, br_c (fun z => nm_r (nI_1 i) (no ?_)) (fun z => ⟨hi, hi, br_c (fun z2 => nm_r (nI_1 i) (no ?_)) (fun z2 => ⟨hi, br_c (fun z3 => nm_r (nI_1 i) (no ?_)) (fun z3 => nm_r (nI_1 i) ?_)⟩)⟩)⟩
    · rw [e] at z
      exact fun m => m.1 z
    · rw [e] at z2
      exact fun m => m.2.1 z2
    · rw [e, nI_add] at z3
      exact fun m => m.2.2 z3
    · rw [e] at z z2
      rw [e, nI_add] at z3
      exact ih (i + 1) _ (by omega) (Or.inr ⟨rfl, i, by omega, z, z2, z3⟩)
theorem dx_meets {a n : Nat} (h0 : (∀ h, h < 4 → ¬ dh_mt a_hookAt a_headLength a n h) → post 0) (h1 : ∀ h, h < 4 → dh_mt a_hookAt a_headLength a n h → post 1) : wpX_meetsHead post (f_length, f_writeAt, f_stacked, f_pc, f_done, f_end, a_plain, a_code, a_starts, a_moved, a_area, a_hookAt, a_headLength, a_count, a_reg, a_stack) (nI a) (nI n) :=
  Exists.intro 5 (dx_meets_l h0 h1 4 0 0 rfl (Or.inl ⟨rfl, fun h hh => absurd hh (by omega)⟩))
theorem dx_targetOf {x : Nat} (hP : ∀ x, a_plain x = nI (p x)) (hb : ∀ x, p x < 256) (hx : x + dh_len (p x) ≤ 64) (h : post (dh_tgt p x)) : wpX_targetOf post (f_length, f_writeAt, f_stacked, f_pc, f_done, f_end, a_plain, a_code, a_starts, a_moved, a_area, a_hookAt, a_headLength, a_count, a_reg, a_stack) (nI x) := by
  have hl := dh_len_b (p x)
  have e : a_plain (nI x).toNatClampNeg = nI (p x) := by rw [nI_clamp (by omega), hP]
  have hk := hb x
  refine ⟨vp_in_nI (by omega) (by decide), nm_r e (pk_lt (p x) 4 (fun h4 => ?_) (fun h4 => pk_le (p x) 6 (fun h6 => dx_lengthOf hk ?_) (fun h6 => ?_)))⟩
  · rw [dh_tgt, if_neg (by omega)] at h
    exact h
  · have e2 : nI x + nI (dh_len (p x)) - 1 = nI (x + dh_len (p x) - 1) := by
      rw [nI_add, show (1 : Int32) = nI 1 from rfl, pk_sub (by omega)]
    have e3 : a_plain (nI x + nI (dh_len (p x)) - 1).toNatClampNeg = nI (p (x + dh_len (p x) - 1)) := by rw [e2, nI_clamp (by omega), hP]
    have hk2 := hb (x + dh_len (p x) - 1)
    rw [dh_tgt, if_pos ⟨h4, h6⟩, dh_tg, dh_sg, ← nI_add] at h
    refine ⟨by rw [e2]; exact vp_in_nI (by omega) (by decide), nm_r e3 (pk_le (p (x + dh_len (p x) - 1)) 127 (fun h7 => ?_) (fun h7 => nm_e ?_))⟩
    · rw [if_pos h7] at h
      exact h
    · rw [if_neg (by omega)] at h
      exact h
  · rw [dh_tgt, if_neg (by omega)] at h
    exact h
theorem dx_aimed_l {a n : Nat} (W : dh_WF L p a_starts) (hP : ∀ x, a_plain x = nI (p x)) (h0 : (∀ x, x < L → ¬ dh_am p a_starts a n x) → post 0) (h1 : ∀ x, x < L → dh_am p a_starts a n x → post 1) : ∀ d i x3, i + d = L → ((x3 = 0 ∧ ∀ x, x < i → ¬ dh_am p a_starts a n x) ∨ (x3 = 1 ∧ ∃ x, x < L ∧ dh_am p a_starts a n x)) → wX_aimedInside_5 post (nI a) (nI n) (nI L) f_writeAt f_stacked f_pc f_done f_end a_plain a_code a_starts a_moved a_area a_hookAt a_headLength a_count a_reg a_stack (d + 1) x3 (nI i) := by
  have hL := W.1
  intro d
  induction d with
  | zero =>
    intro i x3 h I
    obtain rfl : i = L := by omega
    refine br_t (nI_le (Nat.le_refl _) (by omega)) ?_
    rcases I with ⟨rfl, I⟩ | ⟨rfl, h, hh, e⟩
    · exact ⟨rfl, h0 I⟩
    · exact ⟨rfl, h1 h hh e⟩
  | succ d ih =>
    intro i x3 h I
    have e : (nI i).toNatClampNeg = i := nI_clamp (by omega)
    have hi : vp_in (nI i) 64 := vp_in_nI (by omega) (by decide)
    have no : ¬ dh_am p a_starts a n i → wX_aimedInside_5 post (nI a) (nI n) (nI L) f_writeAt f_stacked f_pc f_done f_end a_plain a_code a_starts a_moved a_area a_hookAt a_headLength a_count a_reg a_stack (d + 1) x3 (nI (i + 1)) := by
      intro hn
      refine ih (i + 1) _ (by omega) ?_
      rcases I with ⟨rfl, I⟩ | I
      · exact Or.inl ⟨rfl, lt_s I hn⟩
      · exact Or.inr I
    refine br_f (nI_ge (by omega) (by omega)) ⟨hi, br_c (fun z => nm_r (nI_1 i) (no ?_)) (fun z => ?_)⟩
    · rw [e] at z
      exact fun m => m.1 z
    · rw [e] at z
      have hin := W.2.2 i (by omega) z
      have hl := hin.2.1
      refine dx_targetOf hP W.2.1 (by omega) ?_
      rcases I with ⟨rfl, I⟩ | ⟨rfl, I⟩
      · refine br_t rfl (br_c (fun z2 => nm_r (nI_1 i) (no ?_)) (fun z2 => br_c (fun z3 => nm_r (nI_1 i) (no ?_)) (fun z3 => nm_r (nI_1 i) ?_)))
        · exact fun m => m.2.1 z2
        · rw [nI_add] at z3
          exact fun m => m.2.2 z3
        · rw [nI_add] at z3
          exact ih (i + 1) _ (by omega) (Or.inr ⟨rfl, i, by omega, z, z2, z3⟩)
      · exact br_f (by decide) (nm_r (nI_1 i) (ih (i + 1) _ (by omega) (Or.inr ⟨rfl, I⟩)))
theorem dx_aimed {a n : Nat} (W : dh_WF L p a_starts) (hP : ∀ x, a_plain x = nI (p x)) (h0 : (∀ x, x < L → ¬ dh_am p a_starts a n x) → post 0) (h1 : ∀ x, x < L → dh_am p a_starts a n x → post 1) : wpX_aimedInside post (nI L, f_writeAt, f_stacked, f_pc, f_done, f_end, a_plain, a_code, a_starts, a_moved, a_area, a_hookAt, a_headLength, a_count, a_reg, a_stack) (nI a) (nI n) :=
  Exists.intro (L + 1) (dx_aimed_l W hP h0 h1 L 0 0 (by omega) (Or.inl ⟨rfl, fun h hh => absurd hh (by omega)⟩))
theorem dx_isStart {v : Int32} (hL : L ≤ 64) (h0 : (∀ x, x < L → v = nI x → a_starts x = 0) → post 0) (h1 : ∀ x, x < L → v = nI x → a_starts x ≠ 0 → post 1) : wpX_isStart post (nI L, f_writeAt, f_stacked, f_pc, f_done, f_end, a_plain, a_code, a_starts, a_moved, a_area, a_hookAt, a_headLength, a_count, a_reg, a_stack) v := by
  refine br_c (fun hn => h0 ?_) (fun hn => ?_)
  · intro x hx e
    subst e
    exact absurd hn (nI_pos (by omega))
  · obtain ⟨j, hj, rfl⟩ := nI_of hn
    refine pk_le L j (fun h => h0 ?_) (fun h => ⟨vp_in_nI (by omega) (by decide), ?_⟩)
    · intro x hx e
      have := (nI_eq hj (by omega)).mp e
      omega
    · rw [nI_clamp hj]
      refine br_c (fun z => h0 ?_) (fun z => h1 j h rfl z)
      intro x hx e
      have := (nI_eq hj (by omega)).mp e
      subst this
      exact z
theorem dx_put {w : Nat} {v : Int32} (hw : w < 64) (h : postS (f_length, nI (w + 1), f_stacked, f_pc, f_done, f_end, a_plain, a_code, a_starts, a_moved, upd a_area w v, a_hookAt, a_headLength, a_count, a_reg, a_stack)) : wpX_put postS (f_length, nI w, f_stacked, f_pc, f_done, f_end, a_plain, a_code, a_starts, a_moved, a_area, a_hookAt, a_headLength, a_count, a_reg, a_stack) v :=
  And.intro (vp_in_nI hw (by decide)) (nm_r (congrArg (fun z => upd a_area z v) (nI_clamp (by omega))) (nm_r (nI_1 w) h))
theorem dx_putAddress {w : Nat} {t : Int32} (hw : w + 1 < 64) (h : postS (f_length, nI (w + 2), f_stacked, f_pc, f_done, f_end, a_plain, a_code, a_starts, a_moved, upd (upd a_area w ((t + 256) >>> ((8 : Int32) &&& 31))) (w + 1) ((t + 256) &&& 255), a_hookAt, a_headLength, a_count, a_reg, a_stack)) : wpX_putAddress postS (f_length, nI w, f_stacked, f_pc, f_done, f_end, a_plain, a_code, a_starts, a_moved, a_area, a_hookAt, a_headLength, a_count, a_reg, a_stack) t := by
  unfold wpX_putAddress
  refine dx_put (by omega) ?_
  exact dx_put hw h
end
end
section
/-! Y's small methods -/
def dh_cy (H : Nat → Int32) : Nat → Nat
  | 0 => 0
  | h + 1 => dh_cy H h + (if H h = 0 then 0 else 1)
theorem dh_cy_n {H : Nat → Int32} {h : Nat} (z : H h = 0) : dh_cy H (h + 1) = dh_cy H h := by
  show dh_cy H h + (if H h = 0 then 0 else 1) = _
  rw [if_pos z]
  rfl
theorem dh_cy_p {H : Nat → Int32} {h : Nat} (z : ¬ H h = 0) : dh_cy H (h + 1) = dh_cy H h + 1 := by
  show dh_cy H h + (if H h = 0 then 0 else 1) = _
  rw [if_neg z]
def dh_ov (p : Nat → Nat) (Hy : Nat → Int32) (a n b : Nat) : Prop := Hy b ≠ 0 ∧ a < b + dh_hd p b ∧ b < a + n
section
variable {g_length g_held g_at g_ending g_executed : Int32} {b_code b_begins b_registers b_hooked b_count b_returns : Nat → Int32} {p : Nat → Nat} {L : Nat} {post : Int32 → Prop} {postS : SY → Prop}
theorem dy_isReg {v : Int32} (h1 : ∀ r, r < 4 → v = nI r → post 1) (h2 : (∀ r, r < 4 → v ≠ nI r) → post 0) : wpY_isRegister post (g_length, g_held, g_at, g_ending, g_executed, b_code, b_begins, b_registers, b_hooked, b_count, b_returns) v := by
  refine br_c (fun h => h2 ?_) (fun h => br_c (fun h' => h2 ?_) (fun h' => ?_))
  · intro r hr e
    subst e
    exact nI_pos (by omega) h
  · intro r hr e
    subst e
    exact absurd h' (nI_nlt (a := 3) (by omega) (by decide))
  · obtain ⟨j, hj, rfl⟩ := nI_of2 (M := 3) (n := 3) (by decide) h (Int32.not_lt.mp h')
    exact h1 j (by omega) rfl
theorem dy_isTarget {v : Int32} (h1 : -128 ≤ v.toInt → v.toInt ≤ 127 → post 1) (h2 : ¬ (-128 ≤ v.toInt ∧ v.toInt ≤ 127) → post 0) : wpY_isTarget post (g_length, g_held, g_at, g_ending, g_executed, b_code, b_begins, b_registers, b_hooked, b_count, b_returns) v := by
  have e1 : (-128 : Int32).toInt = -128 := by decide
  have e2 : (127 : Int32).toInt = 127 := by decide
  refine br_c (fun h => h2 ?_) (fun h => br_c (fun h' => h2 ?_) (fun h' => h1 ?_ ?_))
  all_goals simp only [Int32.lt_iff_toInt_lt, Int32.le_iff_toInt_le, e1, e2] at *
  all_goals omega
theorem dy_hooks_l (hp : post (nI (dh_cy b_hooked 64))) : ∀ d i, i + d = 64 → wY_hooks_4 post g_length g_held g_at g_ending g_executed b_code b_begins b_registers b_hooked b_count b_returns (d + 1) (nI (dh_cy b_hooked i)) (nI i) := by
  intro d
  induction d with
  | zero =>
    intro i h
    obtain rfl : i = 64 := by omega
    exact br_t (by decide) hp
  | succ d ih =>
    intro i h
    have ih := ih (i + 1) (by omega)
    have e : (nI i).toNatClampNeg = i := nI_clamp (by omega)
    refine br_f (nI_ge (b := 64) (by omega) (by decide)) ⟨vp_in_nI (by omega) (by decide), br_c (fun hn => nm_r (nI_1 i) ?_) (fun hn => nm_r (nI_1 _) (nm_r (nI_1 i) ?_))⟩
    · rw [e] at hn
      rw [dh_cy_n hn] at ih
      exact ih
    · rw [e] at hn
      rw [dh_cy_p hn] at ih
      exact ih
theorem dy_hooks (hp : post (nI (dh_cy b_hooked 64))) : wpY_hooks post (g_length, g_held, g_at, g_ending, g_executed, b_code, b_begins, b_registers, b_hooked, b_count, b_returns) := Exists.intro 65 (dy_hooks_l hp 64 0 rfl)
theorem dy_starts {v : Int32} (hL : L ≤ 64) (h0 : (∀ x, x < L → v = nI x → b_begins x = 0) → post 0) (h1 : ∀ x, x < L → v = nI x → b_begins x ≠ 0 → post 1) : wpY_starts post (nI L, g_held, g_at, g_ending, g_executed, b_code, b_begins, b_registers, b_hooked, b_count, b_returns) v := by
  refine br_c (fun hn => h0 ?_) (fun hn => ?_)
  · intro x hx e
    subst e
    exact absurd hn (nI_pos (by omega))
  · obtain ⟨j, hj, rfl⟩ := nI_of hn
    refine pk_le L j (fun h => h0 ?_) (fun h => ⟨vp_in_nI (by omega) (by decide), ?_⟩)
    · intro x hx e
      have := (nI_eq hj (by omega)).mp e
      omega
    · rw [nI_clamp hj]
      refine br_c (fun z => h0 ?_) (fun z => h1 j h rfl z)
      intro x hx e
      have := (nI_eq hj (by omega)).mp e
      subst this
      exact z
theorem dy_nextOf_l {x : Nat} (hL : L ≤ 64) (I : dh_In L p b_begins x) (h : post (nI (x + dh_len (p x)))) : ∀ d y, x < y → y + d = x + dh_len (p x) → wY_nextOf_4 post (nI L) g_held g_at g_ending g_executed b_code b_begins b_registers b_hooked b_count b_returns (d + 1) (nI y) := by
  obtain ⟨i1, i2, i3, i4, i5⟩ := I
  intro d
  induction d with
  | zero =>
    intro y h1 h2
    obtain rfl : y = x + dh_len (p x) := by omega
    refine pk_le L (x + dh_len (p x)) (fun _ => h) (fun h3 => ⟨vp_in_nI (by omega) (by decide), ?_⟩)
    rw [nI_clamp (by omega)]
    exact br_f (i4 h3) h
  | succ d ih =>
    intro y h1 h2
    refine pk_le L y (fun h3 => absurd h3 (by omega)) (fun h3 => ⟨vp_in_nI (by omega) (by decide), ?_⟩)
    rw [nI_clamp (by omega)]
    exact br_t (i3 y h1 (by omega)) (nm_r (nI_1 y) (ih (y + 1) (by omega) (by omega)))
theorem dy_nextOf {x : Nat} (hL : L ≤ 64) (I : dh_In L p b_begins x) (h : post (nI (x + dh_len (p x)))) : wpY_nextOf post (nI L, g_held, g_at, g_ending, g_executed, b_code, b_begins, b_registers, b_hooked, b_count, b_returns) (nI x) := by
  have hl := dh_len_b (p x)
  exact nm_r (nI_1 x) (Exists.intro (dh_len (p x) - 1 + 1) (dy_nextOf_l hL I h (dh_len (p x) - 1) (x + 1) (by omega) (by omega)))
theorem dy_headOf_y {a : Nat} (W : dh_WF L p b_begins) (ha : a + 3 ≤ L) : ∀ d i n, i + d = 3 → dh_Gd L p b_begins a n → post (nI (dh_hg p a d n)) → wY_headOf_14 post (nI a) (nI L) g_held g_at g_ending g_executed b_code b_begins b_registers b_hooked b_count b_returns (d + 1) (nI (a + n)) (nI i) := by
  have hL := W.1
  intro d
  induction d with
  | zero =>
    intro i n h G hp
    obtain rfl : i = 3 := by omega
    refine br_t (by decide) ?_
    rw [pk_sub (by omega), Nat.add_sub_cancel_left]
    exact hp
  | succ d ih =>
    intro i n h G hp
    have g := G
    obtain ⟨g1, g2, g3, g4⟩ := g
    refine br_f (nI_ge (b := 3) (by omega) (by decide)) (pk_le (a + 3) (a + n) (fun h3 => ?_) (fun h3 => pk_lt (a + n) L (fun h4 => ?_) (fun h4 => absurd h4 (by omega))) (nI_add a 3))
    · rw [dh_hg_ge p a _ n (by omega)] at hp
      rw [pk_sub (by omega), Nat.add_sub_cancel_left]
      exact hp
    · rw [dh_hg_lt p a _ n (by omega)] at hp
      have hi := ih (i + 1) _ (by omega) (dh_Gd_s W ha G (by omega)) hp
      rw [← Nat.add_assoc] at hi
      exact dy_nextOf hL (W.2.2 _ h4 (g2 h4)) (nm_r (nI_1 i) hi)
theorem dy_headOf_n {a : Nat} (W : dh_WF L p b_begins) (ha : ¬ a + 3 ≤ L) (hp : post 0) : ∀ d i n, i + d = 3 → a + n ≤ L → (a + n < L → b_begins (a + n) ≠ 0) → 3 ≤ n + d → wY_headOf_14 post (nI a) (nI L) g_held g_at g_ending g_executed b_code b_begins b_registers b_hooked b_count b_returns (d + 1) (nI (a + n)) (nI i) := by
  have hL := W.1
  intro d
  induction d with
  | zero => intro i n h h1 h2 h3; omega
  | succ d ih =>
    intro i n h h1 h2 h3
    refine br_f (nI_ge (b := 3) (by omega) (by decide)) (pk_le (a + 3) (a + n) (fun h3 => absurd h3 (by omega)) (fun h3 => pk_lt (a + n) L (fun h4 => ?_) (fun h4 => hp)) (nI_add a 3))
    have I := W.2.2 _ h4 (h2 h4)
    have hl := dh_len_b (p (a + n))
    have i2 := I.2.1
    have hi := ih (i + 1) (n + dh_len (p (a + n))) (by omega) (by omega) (by rw [← Nat.add_assoc]; exact I.2.2.2.1) (by omega)
    rw [← Nat.add_assoc] at hi
    exact dy_nextOf hL I (nm_r (nI_1 i) hi)
theorem dy_headOf {a : Nat} (W : dh_WF L p b_begins) (h1 : a + 3 ≤ L → b_begins a ≠ 0 → post (nI (dh_hd p a))) (h0 : ¬ (a + 3 ≤ L ∧ b_begins a ≠ 0) → post 0) (ha : a < 64) : wpY_headOf post (nI L, g_held, g_at, g_ending, g_executed, b_code, b_begins, b_registers, b_hooked, b_count, b_returns) (nI a) := by
  unfold wpY_headOf
  refine dy_starts W.1 (fun hn => br_t rfl (h0 ?_)) (fun x hx e hb => br_f (by decide) ?_)
  · intro h
    exact h.2 (hn a (by omega) rfl)
  · have hL := W.1
    have := (nI_eq (by omega) (by omega)).mp e
    subst this
    by_cases h3 : a + 3 ≤ L
    · exact Exists.intro 4 (dy_headOf_y W h3 3 0 0 rfl (dh_Gd_0 h3 hb) (h1 h3 hb))
    · exact Exists.intro 4 (dy_headOf_n W h3 (h0 (fun z => h3 z.1)) 3 0 0 rfl (by omega) (fun _ => hb) (by omega))
theorem dy_targetOf {x : Nat} (W : dh_WF L p b_begins) (hP : ∀ x, b_code x = nI (p x)) (hx : x < L) (hbx : b_begins x ≠ 0) (h : post (dh_tgt p x)) : wpY_targetOf post (nI L, g_held, g_at, g_ending, g_executed, b_code, b_begins, b_registers, b_hooked, b_count, b_returns) (nI x) := by
  have hL := W.1
  have hb := W.2.1
  have hl := dh_len_b (p x)
  have I := W.2.2 x hx hbx
  have i2 := I.2.1
  have e : b_code (nI x).toNatClampNeg = nI (p x) := by rw [nI_clamp (by omega), hP]
  have hk := hb x
  have hin : vp_in (nI x) 64 := vp_in_nI (by omega) (by decide)
  refine ⟨hin, ?_⟩
  rw [e]
  refine pk_lt (p x) 4 (fun h4 => ?_) (fun h4 => ⟨hin, pk_le (p x) 6 (fun h6 => dy_nextOf hL I ?_) (fun h6 => ?_)⟩)
  · rw [dh_tgt, if_neg (by omega)] at h
    exact h
  · have e2 : nI (x + dh_len (p x)) - 1 = nI (x + dh_len (p x) - 1) := by
      rw [show (1 : Int32) = nI 1 from rfl, pk_sub (by omega)]
    have e3 : b_code (nI (x + dh_len (p x)) - 1).toNatClampNeg = nI (p (x + dh_len (p x) - 1)) := by rw [e2, nI_clamp (by omega), hP]
    have hk2 := hb (x + dh_len (p x) - 1)
    rw [dh_tgt, if_pos ⟨h4, h6⟩, dh_tg, dh_sg] at h
    refine ⟨by rw [e2]; exact vp_in_nI (by omega) (by decide), nm_r e3 (pk_le (p (x + dh_len (p x) - 1)) 127 (fun h7 => ?_) (fun h7 => ?_))⟩
    · rw [if_pos h7] at h
      exact h
    · rw [if_neg (by omega)] at h
      exact h
  · rw [dh_tgt, if_neg (by omega)] at h
    exact h
theorem dy_overlaps_l {a n : Nat} (W : dh_WF L p b_begins) (ha : a < 64) (hn : n < 64) (hH : ∀ b, b < 64 → b_hooked b ≠ 0 → b + 3 ≤ L ∧ b_begins b ≠ 0) (h0 : (∀ b, b < 64 → ¬ dh_ov p b_hooked a n b) → post 0) (h1 : ∀ b, b < 64 → dh_ov p b_hooked a n b → post 1) : ∀ d i, i + d = 64 → (∀ b, b < i → ¬ dh_ov p b_hooked a n b) → wY_overlaps_2 post (nI a) (nI n) (nI L) g_held g_at g_ending g_executed b_code b_begins b_registers b_hooked b_count b_returns (d + 1) (nI i) := by
  have hL := W.1
  intro d
  induction d with
  | zero =>
    intro i h I
    obtain rfl : i = 64 := by omega
    exact br_t (by decide) (h0 I)
  | succ d ih =>
    intro i h I
    have e : (nI i).toNatClampNeg = i := nI_clamp (by omega)
    have no : ¬ dh_ov p b_hooked a n i → wY_overlaps_2 post (nI a) (nI n) (nI L) g_held g_at g_ending g_executed b_code b_begins b_registers b_hooked b_count b_returns (d + 1) (nI (i + 1)) :=
      fun hn => ih (i + 1) (by omega) (lt_s I hn)
    refine br_f (nI_ge (b := 64) (by omega) (by decide)) ⟨vp_in_nI (by omega) (by decide), br_c (fun z => nm_r (nI_1 i) (no ?_)) (fun z => ?_)⟩
    · rw [e] at z
      exact fun m => m.1 z
    · rw [e] at z
      obtain ⟨k1, k2⟩ := hH i (by omega) z
      have g := (dh_hd_Gd W k1 k2).1.2.2.1
      refine dy_headOf W (fun _ _ => ?_) (fun hn => absurd ⟨k1, k2⟩ hn) (by omega)
      refine pk_le (i + dh_hd p i) a (fun z2 => nm_r (nI_1 i) (no ?_)) (fun z2 => pk_le (a + n) i (fun z3 => nm_r (nI_1 i) (no ?_)) (fun z3 => h1 i (by omega) ⟨z, z2, z3⟩) (nI_add a n)) (nI_add i _)
      · intro m
        have := m.2.1
        omega
      · intro m
        have := m.2.2
        omega
theorem dy_overlaps {a n : Nat} (W : dh_WF L p b_begins) (ha : a < 64) (hn : n < 64) (hH : ∀ b, b < 64 → b_hooked b ≠ 0 → b + 3 ≤ L ∧ b_begins b ≠ 0) (h0 : (∀ b, b < 64 → ¬ dh_ov p b_hooked a n b) → post 0) (h1 : ∀ b, b < 64 → dh_ov p b_hooked a n b → post 1) : wpY_overlaps post (nI L, g_held, g_at, g_ending, g_executed, b_code, b_begins, b_registers, b_hooked, b_count, b_returns) (nI a) (nI n) :=
  Exists.intro 65 (dy_overlaps_l W ha hn hH h0 h1 64 0 rfl (fun h hh => absurd hh (by omega)))
theorem dy_entered_l {a n : Nat} (W : dh_WF L p b_begins) (hP : ∀ x, b_code x = nI (p x)) (ha : a < 64) (h0 : (∀ x, x < L → ¬ dh_am p b_begins a n x) → post 0) (h1 : ∀ x, x < L → dh_am p b_begins a n x → post 1) : ∀ d i, i + d = L → (∀ b, b < i → ¬ dh_am p b_begins a n b) → wY_isEntered_2 post (nI a) (nI n) (nI L) g_held g_at g_ending g_executed b_code b_begins b_registers b_hooked b_count b_returns (d + 1) (nI i) := by
  have hL := W.1
  intro d
  induction d with
  | zero =>
    intro i h I
    obtain rfl : i = L := by omega
    exact br_t (nI_le (Nat.le_refl _) (by omega)) (h0 I)
  | succ d ih =>
    intro i h I
    have e : (nI i).toNatClampNeg = i := nI_clamp (by omega)
    have no : ¬ dh_am p b_begins a n i → wY_isEntered_2 post (nI a) (nI n) (nI L) g_held g_at g_ending g_executed b_code b_begins b_registers b_hooked b_count b_returns (d + 1) (nI (i + 1)) :=
      fun hn => ih (i + 1) (by omega) (lt_s I hn)
    refine br_f (nI_ge (by omega) (by omega)) ⟨vp_in_nI (by omega) (by decide), br_c (fun z => ?_) (fun z => ?_)⟩
    · rw [e] at z
      refine br_t ?_ (nm_r (nI_1 i) (no (fun m => m.1 z)))
      rw [Int32.le_iff_toInt_le, nI_toInt (by omega), show (-1000 : Int32).toInt = -1000 from by decide]
      omega
    · rw [e] at z
      refine dy_targetOf W hP (by omega) z (br_c (fun z2 => nm_r (nI_1 i) (no (fun m => m.2.1 z2))) (fun z2 => br_c (fun z3 => nm_r (nI_1 i) (no ?_)) (fun z3 => h1 i (by omega) ⟨z, z2, ?_⟩)))
      · rw [nI_add] at z3
        exact fun m => m.2.2 z3
      · rw [nI_add] at z3
        exact z3
theorem dy_entered {a n : Nat} (W : dh_WF L p b_begins) (hP : ∀ x, b_code x = nI (p x)) (ha : a < 64) (h0 : (∀ x, x < L → ¬ dh_am p b_begins a n x) → post 0) (h1 : ∀ x, x < L → dh_am p b_begins a n x → post 1) : wpY_isEntered post (nI L, g_held, g_at, g_ending, g_executed, b_code, b_begins, b_registers, b_hooked, b_count, b_returns) (nI a) (nI n) :=
  Exists.intro (L + 1) (dy_entered_l W hP ha h0 h1 L 0 (by omega) (fun h hh => absurd hh (by omega)))
end
end
section
/-! the relation -/
def dh_on (H : Nat → Int32) (h a : Nat) : Prop := h < 4 ∧ a < 64 ∧ H h = nI a
def dh_Rl (p : Nat → Nat) (A : Nat → Int32) (x i : Nat) : Prop :=
  (p x = 4 → A i = 14 ∧ dh_Ad A (i + 1) (dh_tg p x)) ∧ (p x = 5 → A i = 11 ∧ A (i + 1) = nI (p (x + 1)) ∧ dh_Ad A (i + 2) (dh_tg p x)) ∧ (p x = 6 → A i = 12 ∧ dh_Ad A (i + 1) (dh_tg p x)) ∧ (p x = 8 → A i = 13 ∧ A (i + 1) = nI (p (x + 1)) ∧ dh_Ad A (i + 2) (nI (x + 2))) ∧ (p x ≤ 3 ∨ p x = 7 → A i = nI (p x)) ∧ (1 ≤ p x → p x ≤ 3 → A (i + 1) = nI (p (x + 1)))
def dh_Lay (p : Nat → Nat) (B M A : Nat → Int32) (h a : Nat) : Prop :=
  A (16 * h) = 10 ∧ A (16 * h + 1) = nI h ∧ (∀ x, a ≤ x → x < a + dh_hd p a → B x ≠ 0 → dh_Rl p A x (dh_q p B h a x) ∧ M x = nI (512 + dh_q p B h a x)) ∧ A (dh_q p B h a (a + dh_hd p a)) = 9 ∧ dh_Ad A (dh_q p B h a (a + dh_hd p a) + 1) (nI (a + dh_hd p a))
def dh_Slot (L : Nat) (p : Nat → Nat) (B C M A : Nat → Int32) (h a : Nat) : Prop :=
  a + 3 ≤ L ∧ B a ≠ 0 ∧ (C a = 9 ∧ dh_Ad C (a + 1) (nI (512 + 16 * h))) ∧ (∀ x, x < L → ¬ dh_am p B a (dh_hd p a) x) ∧ dh_Lay p B M A h a
def dh_E (L : Nat) (p : Nat → Nat) (B C M A H N : Nat → Int32) : Prop :=
  (∀ h, h < 4 → H h = -1 ∨ ∃ a, dh_on H h a ∧ N h = nI (dh_hd p a) ∧ dh_Slot L p B C M A h a) ∧ (∀ h h' a a', dh_on H h a → dh_on H h' a' → h ≠ h' → a + dh_hd p a ≤ a' ∨ a' + dh_hd p a' ≤ a) ∧ (∀ x, x < 64 → (∀ h a, dh_on H h a → ¬ (a ≤ x ∧ x < a + dh_hd p a)) → C x = nI (p x))
def dh_K (H K Hy Ky : Nat → Int32) : Prop :=
  (∀ h a, dh_on H h a → Hy a ≠ 0 ∧ K h = Ky a) ∧ (∀ b, b < 64 → Hy b ≠ 0 → ∃ h, dh_on H h b) ∧ dh_cy Hy 64 = dh_cx H 4
def dh_R (L : Nat) (p : Nat → Nat) (B P C M A H N K Hy Ky : Nat → Int32) : Prop :=
  dh_WF L p B ∧ (∀ x, P x = nI (p x)) ∧ dh_E L p B C M A H N ∧ dh_K H K Hy Ky
def i_Rel (_ : Nat) (u : SX) (v : SY) : Prop :=
  match u, v with
  | (f_length, f_writeAt, f_stacked, f_pc, f_done, f_end, a_plain, a_code, a_starts, a_moved, a_area, a_hookAt, a_headLength, a_count, a_reg, a_stack), (g_length, g_held, g_at, g_ending, g_executed, b_code, b_begins, b_registers, b_hooked, b_count, b_returns) => ∃ L : Nat, ∃ p : Nat → Nat, f_length = nI L ∧ g_length = nI L ∧ g_executed = f_done ∧ g_ending = f_end ∧ b_code = a_plain ∧ b_begins = a_starts ∧ b_registers = a_reg ∧ dh_R L p a_starts a_plain a_code a_moved a_area a_hookAt a_headLength a_count b_hooked b_count
theorem i_up {k : Nat} {u : SX} {v : SY} (h : i_Rel k u v) : i_Rel (k + 3) u v := h
theorem dh_el {k : Nat} {u : SX} {v : SY} (Q : SX → SY → Prop) (I : i_Rel k u v) (h : ∀ (L : Nat) (p : Nat → Nat) (f_writeAt f_stacked f_pc f_done f_end : Int32) (a_plain a_code a_starts a_moved a_area a_hookAt a_headLength a_count a_reg a_stack : Nat → Int32) (g_held g_at : Int32) (b_hooked b_count b_returns : Nat → Int32), dh_R L p a_starts a_plain a_code a_moved a_area a_hookAt a_headLength a_count b_hooked b_count → Q (nI L, f_writeAt, f_stacked, f_pc, f_done, f_end, a_plain, a_code, a_starts, a_moved, a_area, a_hookAt, a_headLength, a_count, a_reg, a_stack) (nI L, g_held, g_at, f_end, f_done, a_plain, a_starts, a_reg, b_hooked, b_count, b_returns)) : Q u v := by
  obtain ⟨f_length, f_writeAt, f_stacked, f_pc, f_done, f_end, a_plain, a_code, a_starts, a_moved, a_area, a_hookAt, a_headLength, a_count, a_reg, a_stack⟩ := u
  obtain ⟨g_length, g_held, g_at, g_ending, g_executed, b_code, b_begins, b_registers, b_hooked, b_count, b_returns⟩ := v
  obtain ⟨L, p, e1, e2, e3, e4, e5, e6, e7, R⟩ := I
  subst e1 e2 e3 e4 e5 e6 e7
  exact h _ _ _ _ _ _ _ _ _ _ _ _ _ _ _ _ _ _ _ _ _ _ R
theorem dh_neg1 {a : Nat} (ha : a < 64) : (-1 : Int32) ≠ nI a := by
  intro e
  have h : ¬ nI a < 0 := nI_pos (by omega)
  rw [← e] at h
  exact h (by decide)
theorem dh_cx_z {H : Nat → Int32} : ∀ j, dh_cx H j = 0 → ∀ h, h < j → H h < 0 := by
  intro j
  induction j with
  | zero => intro _ h hh; omega
  | succ j ih =>
    intro e h hh
    by_cases z : H j < 0
    · rw [dh_cx_n z] at e
      by_cases hj : h = j
      · rw [hj]; exact z
      · exact ih e h (by omega)
    · rw [dh_cx_p z] at e
      omega
theorem dh_cx_le {H : Nat → Int32} : ∀ j, dh_cx H j ≤ j := by
  intro j
  induction j with
  | zero => exact Nat.le_refl _
  | succ j ih =>
    by_cases z : H j < 0
    · rw [dh_cx_n z]; omega
    · rw [dh_cx_p z]; omega
theorem dh_cx_0 {H : Nat → Int32} : ∀ j, (∀ h, h < j → H h = -1) → dh_cx H j = 0 := by
  intro j
  induction j with
  | zero => intro _; rfl
  | succ j ih =>
    intro h
    rw [dh_cx_n (by rw [h j (by omega)]; decide)]
    exact ih (fun i hi => h i (by omega))
theorem dh_cx_4 {H : Nat → Int32} : ∀ j, dh_cx H j = j → ∀ h, h < j → ¬ H h < 0 := by
  intro j
  induction j with
  | zero => intro _ h hh; omega
  | succ j ih =>
    intro e h hh
    by_cases z : H j < 0
    · have := dh_cx_le (H := H) j
      rw [dh_cx_n z] at e
      omega
    · rw [dh_cx_p z] at e
      by_cases hj : h = j
      · rw [hj]; exact z
      · exact ih (by omega) h (by omega)
theorem dh_cy_0 : ∀ j, dh_cy (fun _ => 0) j = 0 := by
  intro j
  induction j with
  | zero => rfl
  | succ j ih => rw [dh_cy_n rfl]; exact ih
theorem dh_nl0 {c : Nat} (hc : c < 100) : nI c ≤ 0 ↔ c = 0 := by
  constructor
  · intro h
    have := (nI_leI (a := c) (b := 0) (by omega) (by omega)).mp h
    omega
  · intro h
    subst h
    decide
section
variable {L : Nat} {p : Nat → Nat} {B P C M A H N K Hy Ky : Nat → Int32}
theorem dh_free (hH : ∀ h, h < 4 → H h = -1) {h a : Nat} : ¬ dh_on H h a := by
  intro ⟨h1, h2, h3⟩
  rw [hH h h1] at h3
  exact dh_neg1 h2 h3
theorem dh_R_free (R : dh_R L p B P C M A H N K Hy Ky) (e : dh_cx H 4 = 0) : (∀ h, h < 4 → H h = -1) ∧ ∀ x, x < 64 → C x = nI (p x) := by
  have hz := dh_cx_z 4 e
  have hH : ∀ h, h < 4 → H h = -1 := by
    intro h hh
    rcases R.2.2.1.1 h hh with e | ⟨a, ⟨h1, h2, h3⟩, _⟩
    · exact e
    · have := hz h hh
      rw [h3] at this
      exact absurd this (nI_pos (by omega))
  exact ⟨hH, fun x hx => R.2.2.1.2.2 x hx (fun h a o => absurd o (dh_free hH))⟩
theorem dh_R_mk (W : dh_WF L p B) (hP : ∀ x, P x = nI (p x)) (hH : ∀ h, h < 4 → H h = -1) (hC : ∀ x, x < 64 → C x = nI (p x)) (k : dh_K H K Hy Ky) : dh_R L p B P C M A H N K Hy Ky :=
  ⟨W, hP, ⟨fun h hh => Or.inl (hH h hh), fun h h' a a' o => absurd o (dh_free hH), fun x hx _ => hC x hx⟩, k⟩
theorem dh_R_slot (R : dh_R L p B P C M A H N K Hy Ky) {h a : Nat} (o : dh_on H h a) : N h = nI (dh_hd p a) ∧ dh_Slot L p B C M A h a := by
  obtain ⟨h1, h2, h3⟩ := o
  rcases R.2.2.1.1 h h1 with e | ⟨a', ⟨k1, k2, k3⟩, k4, k5⟩
  · rw [e] at h3
    exact absurd h3 (dh_neg1 h2)
  · rw [k3] at h3
    have := (nI_eq (by omega) (by omega)).mp h3
    subst this
    exact ⟨k4, k5⟩
end
section
variable {f_length f_writeAt f_stacked f_pc f_done f_end : Int32} {a_plain a_code a_starts a_moved a_area a_hookAt a_headLength a_count a_reg a_stack : Nat → Int32} {g_held g_at : Int32} {b_hooked b_count b_returns : Nat → Int32} {L k : Nat} {p : Nat → Nat}
theorem dh_mk (R : dh_R L p a_starts a_plain a_code a_moved a_area a_hookAt a_headLength a_count b_hooked b_count) : i_Rel k (nI L, f_writeAt, f_stacked, f_pc, f_done, f_end, a_plain, a_code, a_starts, a_moved, a_area, a_hookAt, a_headLength, a_count, a_reg, a_stack) (nI L, g_held, g_at, f_end, f_done, a_plain, a_starts, a_reg, b_hooked, b_count, b_returns) :=
  Exists.intro L (Exists.intro p ⟨rfl, rfl, rfl, rfl, rfl, rfl, rfl, R⟩)
theorem dx_init_l {post : SX → Prop} (h : ∀ H, (∀ h, h < 4 → H h = -1) → post (f_length, f_writeAt, f_stacked, f_pc, f_done, f_end, a_plain, a_code, a_starts, a_moved, a_area, H, a_headLength, a_count, a_reg, a_stack)) : ∀ d i H, i + d = 4 → (∀ h, h < i → H h = -1) → wX_init_82 post f_length f_writeAt f_stacked f_pc f_done f_end (d + 1) (nI i) a_plain a_code a_starts a_moved a_area H a_headLength a_count a_reg a_stack := by
  intro d
  induction d with
  | zero =>
    intro i H e I
    obtain rfl : i = 4 := by omega
    exact br_t (by decide) (h H I)
  | succ d ih =>
    intro i H e I
    refine br_f (nI_ge (b := 4) (by omega) (by decide)) ⟨vp_in_nI (by omega) (by decide), nm_r (congrArg (fun z => upd H z (-1)) (nI_clamp (by omega))) (nm_r (nI_1 i) (ih (i + 1) _ (by omega) (lt_s (fun j hj => ?_) pk_us)))⟩
    rw [pk_un (by omega)]
    exact I j hj
end
theorem i_vc0 : wpX_init (fun u => wpY_init (fun v => i_Rel 0 u v)) := by
  refine Exists.intro 5 (dx_init_l (fun H hH => ?_) 4 0 _ rfl (fun h hh => absurd hh (by omega)))
  unfold wpY_init
  refine dh_mk (L := 0) (p := fun _ => 0) (dh_R_mk ⟨by omega, fun _ => by show 0 < 256; omega, fun x hx => absurd hx (by omega)⟩ (fun _ => rfl) hH (fun _ _ => rfl) ⟨fun h a o => absurd o (dh_free hH), fun b _ hb => absurd rfl hb, ?_⟩)
  rw [dh_cx_0 4 hH, dh_cy_0]
theorem i_vc_length {k : Nat} {u : SX} {v : SY} (I : i_Rel k u v) (hk : k + 3 ≤ 1536) : wpX_length (fun r => wpY_length (fun r' => r' = r ∧ i_Rel (k + 3) u v) v) u := by
  refine dh_el (fun u v => wpX_length (fun r => wpY_length (fun r' => r' = r ∧ i_Rel (k + 3) u v) v) u) I ?_
  intros
  exact And.intro rfl (dh_mk (by assumption))
theorem i_vc_ending {k : Nat} {u : SX} {v : SY} (I : i_Rel k u v) (hk : k + 3 ≤ 1536) : wpX_ending (fun r => wpY_ending (fun r' => r' = r ∧ i_Rel (k + 3) u v) v) u := by
  refine dh_el (fun u v => wpX_ending (fun r => wpY_ending (fun r' => r' = r ∧ i_Rel (k + 3) u v) v) u) I ?_
  intros
  exact And.intro rfl (dh_mk (by assumption))
theorem i_vc_executed {k : Nat} {u : SX} {v : SY} (I : i_Rel k u v) (hk : k + 3 ≤ 1536) : wpX_executed (fun r => wpY_executed (fun r' => r' = r ∧ i_Rel (k + 3) u v) v) u := by
  refine dh_el (fun u v => wpX_executed (fun r => wpY_executed (fun r' => r' = r ∧ i_Rel (k + 3) u v) v) u) I ?_
  intros
  exact And.intro rfl (dh_mk (by assumption))
theorem i_vc_peek {k : Nat} {u : SX} {v : SY} (I : i_Rel k u v) (hk : k + 3 ≤ 1536) (v1 : Int32) : wpX_peek (fun r => wpY_peek (fun r' => r' = r ∧ i_Rel (k + 3) u v) v v1) u v1 := by
  refine dh_el (fun u v => wpX_peek (fun r => wpY_peek (fun r' => r' = r ∧ i_Rel (k + 3) u v) v v1) u v1) I ?_
  intro L p f_writeAt f_stacked f_pc f_done f_end a_plain a_code a_starts a_moved a_area a_hookAt a_headLength a_count a_reg a_stack g_held g_at b_hooked b_count b_returns R
  have hL := R.1.1
  refine br_c (fun z => br_t z ⟨rfl, dh_mk R⟩) (fun z => br_c (fun z2 => ?_) (fun z2 => br_f z (br_f z2 ⟨rfl, dh_mk R⟩)))
  have hin : vp_in v1 64 := by
    obtain ⟨j, hj, rfl⟩ := nI_of z
    have := (nI_ltI hj (by omega)).mp z2
    exact vp_in_nI (by omega) (by decide)
  exact ⟨hin, br_f z (br_t z2 ⟨hin, rfl, dh_mk R⟩)⟩
theorem i_vc_setRegister {k : Nat} {u : SX} {v : SY} (I : i_Rel k u v) (hk : k + 3 ≤ 1536) (v1 : Int32) (v2 : Int32) : wpX_setRegister (fun r u' => wpY_setRegister (fun r' v' => r' = r ∧ i_Rel (k + 3) u' v') v v1 v2) u v1 v2 := by
  refine dh_el (fun u v => wpX_setRegister (fun r u' => wpY_setRegister (fun r' v' => r' = r ∧ i_Rel (k + 3) u' v') v v1 v2) u v1 v2) I ?_
  intro L p f_writeAt f_stacked f_pc f_done f_end a_plain a_code a_starts a_moved a_area a_hookAt a_headLength a_count a_reg a_stack g_held g_at b_hooked b_count b_returns R
  unfold wpX_setRegister wpY_setRegister
  refine dx_badReg (fun r hr e => br_t rfl ?_) (fun hn => br_f (by decide) ?_)
  · subst e
    have hin : vp_in (nI r) 4 := vp_in_nI hr (by decide)
    refine ⟨hin, nm_e ?_⟩
    exact dy_isReg (fun _ _ _ => br_f (by decide) ⟨hin, nm_e ⟨rfl, dh_mk R⟩⟩) (fun hn => absurd rfl (hn r hr))
  · exact dy_isReg (fun r hr e => absurd e (hn r hr)) (fun hn => br_t rfl ⟨rfl, dh_mk R⟩)
theorem i_vc_register {k : Nat} {u : SX} {v : SY} (I : i_Rel k u v) (hk : k + 3 ≤ 1536) (v1 : Int32) : wpX_register (fun r => wpY_register (fun r' => r' = r ∧ i_Rel (k + 3) u v) v v1) u v1 := by
  refine dh_el (fun u v => wpX_register (fun r => wpY_register (fun r' => r' = r ∧ i_Rel (k + 3) u v) v v1) u v1) I ?_
  intro L p f_writeAt f_stacked f_pc f_done f_end a_plain a_code a_starts a_moved a_area a_hookAt a_headLength a_count a_reg a_stack g_held g_at b_hooked b_count b_returns R
  unfold wpX_register wpY_register
  refine dx_badReg (fun r hr e => br_t rfl ?_) (fun hn => br_f (by decide) ?_)
  · subst e
    have hin : vp_in (nI r) 4 := vp_in_nI hr (by decide)
    refine ⟨hin, ?_⟩
    exact dy_isReg (fun _ _ _ => br_f (by decide) ⟨hin, rfl, dh_mk R⟩) (fun hn => absurd rfl (hn r hr))
  · exact dy_isReg (fun r hr e => absurd e (hn r hr)) (fun hn => br_t rfl ⟨rfl, dh_mk R⟩)
theorem i_vc_hooks {k : Nat} {u : SX} {v : SY} (I : i_Rel k u v) (hk : k + 3 ≤ 1536) : wpX_hooks (fun r => wpY_hooks (fun r' => r' = r ∧ i_Rel (k + 3) u v) v) u := by
  refine dh_el (fun u v => wpX_hooks (fun r => wpY_hooks (fun r' => r' = r ∧ i_Rel (k + 3) u v) v) u) I ?_
  intro L p f_writeAt f_stacked f_pc f_done f_end a_plain a_code a_starts a_moved a_area a_hookAt a_headLength a_count a_reg a_stack g_held g_at b_hooked b_count b_returns R
  exact dx_hooks (dy_hooks ⟨congrArg nI R.2.2.2.2.2, dh_mk R⟩)
theorem i_vc_clear {k : Nat} {u : SX} {v : SY} (I : i_Rel k u v) (hk : k + 3 ≤ 1536) : wpX_clear (fun r u' => wpY_clear (fun r' v' => r' = r ∧ i_Rel (k + 3) u' v') v) u := by
  refine dh_el (fun u v => wpX_clear (fun r u' => wpY_clear (fun r' v' => r' = r ∧ i_Rel (k + 3) u' v') v) u) I ?_
  intro L p f_writeAt f_stacked f_pc f_done f_end a_plain a_code a_starts a_moved a_area a_hookAt a_headLength a_count a_reg a_stack g_held g_at b_hooked b_count b_returns R
  have ec := R.2.2.2.2.2
  have hc := dh_cx_le (H := a_hookAt) 4
  have i1 := dh_nl0 (c := dh_cx a_hookAt 4) (by omega)
  unfold wpX_clear wpY_clear
  refine dx_hooks (br_c (fun z => dy_hooks ?_) (fun z => dy_hooks ?_))
  · have z0 := i1.mp z
    rw [ec]
    refine br_t z ⟨rfl, ?_⟩
    obtain ⟨hH, hC⟩ := dh_R_free R z0
    exact dh_mk (L := 0) (p := p) (dh_R_mk ⟨by omega, R.1.2.1, fun x hx => absurd hx (by omega)⟩ R.2.1 hH hC R.2.2.2)
  · rw [ec]
    exact br_f z ⟨rfl, dh_mk R⟩
theorem i_vc_calls {k : Nat} {u : SX} {v : SY} (I : i_Rel k u v) (hk : k + 3 ≤ 1536) (v1 : Int32) : wpX_calls (fun r => wpY_calls (fun r' => r' = r ∧ i_Rel (k + 3) u v) v v1) u v1 := by
  refine dh_el (fun u v => wpX_calls (fun r => wpY_calls (fun r' => r' = r ∧ i_Rel (k + 3) u v) v v1) u v1) I ?_
  intro L p f_writeAt f_stacked f_pc f_done f_end a_plain a_code a_starts a_moved a_area a_hookAt a_headLength a_count a_reg a_stack g_held g_at b_hooked b_count b_returns R
  refine br_c (fun z => br_t z ⟨rfl, dh_mk R⟩) (fun z => ?_)
  obtain ⟨a, ha, rfl⟩ := nI_of z
  refine pk_lt a 64 (fun z2 => ?_) (fun z2 => br_f z (br_f (nI_ge (a := 63) (by omega) (by omega)) ⟨rfl, dh_mk R⟩))
  have hin : vp_in (nI a) 64 := vp_in_nI z2 (by decide)
  have ec : (nI a).toNatClampNeg = a := nI_clamp (by omega)
  have hle : nI a ≤ 63 := nI_le (b := 63) (by omega) (by decide)
  refine dx_slotOf (fun hn => br_f (by decide) (br_f z (br_t hle ⟨hin, ?_⟩))) (fun h hh e => br_t (nI_pos' (by omega)) ⟨vp_in_nI hh (by decide), br_f z (br_t hle ⟨hin, ?_⟩)⟩)
  · rw [ec]
    refine br_t ?_ ⟨rfl, dh_mk R⟩
    by_cases hb : b_hooked a = 0
    · exact hb
    · obtain ⟨h, h1, h2, h3⟩ := R.2.2.2.2.1 a z2 hb
      exact absurd h3 (hn h h1)
  · rw [ec, nI_clamp (by omega)]
    obtain ⟨k1, k2⟩ := R.2.2.2.1 h a ⟨hh, z2, e⟩
    exact br_f k1 ⟨hin, k2.symm, dh_mk R⟩
end
section
/-! appending -/
def dh_w (f : Nat → Int32) (L l : Nat) (k s t : Int32) : Nat → Int32 := fun x => if x = L then k else if 2 ≤ l ∧ x = L + 1 then s else if 3 ≤ l ∧ x = L + 2 then t else f x
def dh_pw (f : Nat → Nat) (L l : Nat) (k s t : Nat) : Nat → Nat := fun x => if x = L then k else if 2 ≤ l ∧ x = L + 1 then s else if 3 ≤ l ∧ x = L + 2 then t else f x
theorem dh_w1 (f : Nat → Int32) (L : Nat) (k s t : Int32) : upd f L k = dh_w f L 1 k s t := by
  funext x
  unfold upd dh_w
  by_cases h : x = L
  · rw [if_pos h, if_pos h]
  · rw [if_neg h, if_neg h, if_neg (by omega), if_neg (by omega)]
theorem dh_w2 (f : Nat → Int32) (L : Nat) (k s t : Int32) : upd (upd f L k) (L + 1) s = dh_w f L 2 k s t := by
  funext x
  unfold upd dh_w
  by_cases h : x = L
  · rw [if_neg (by omega), if_pos h, if_pos h]
  · by_cases h1 : x = L + 1
    · rw [if_pos h1, if_neg h, if_pos ⟨by omega, h1⟩]
    · rw [if_neg h1, if_neg h, if_neg h, if_neg (by omega), if_neg (by omega)]
theorem dh_w3 (f : Nat → Int32) (L : Nat) (k s t : Int32) : upd (upd (upd f L k) (L + 1) s) (L + 2) t = dh_w f L 3 k s t := by
  funext x
  unfold upd dh_w
  by_cases h : x = L
  · rw [if_neg (by omega), if_neg (by omega), if_pos h, if_pos h]
  · by_cases h1 : x = L + 1
    · rw [if_neg (by omega), if_pos h1, if_neg h, if_pos ⟨by omega, h1⟩]
    · by_cases h2 : x = L + 2
      · rw [if_pos h2, if_neg h, if_neg (by omega), if_pos ⟨by omega, h2⟩]
      · rw [if_neg h2, if_neg h1, if_neg h, if_neg h, if_neg (by omega), if_neg (by omega)]
theorem dh_uu (f : Nat → Int32) (k : Nat) (x y : Int32) : upd (upd f k x) k y = upd f k y := by
  funext j
  unfold upd
  by_cases h : j = k
  · rw [if_pos h, if_pos h]
  · rw [if_neg h, if_neg h, if_neg h]
theorem dh_w_pw {f : Nat → Int32} {p : Nat → Nat} {x : Nat} (h : f x = nI (p x)) (L l k s t : Nat) : dh_w f L l (nI k) (nI s) (nI t) x = nI (dh_pw p L l k s t x) := by
  unfold dh_w dh_pw
  repeat' split
  all_goals first | rfl | exact h
theorem dh_pw_lt {f : Nat → Nat} {L l k s t x : Nat} (h : x < L) : dh_pw f L l k s t x = f x := by
  unfold dh_pw
  rw [if_neg (by omega), if_neg (by omega), if_neg (by omega)]
theorem dh_pw_0 {f : Nat → Nat} {L l k s t : Nat} : dh_pw f L l k s t L = k := if_pos rfl
theorem dh_pw_1 {f : Nat → Nat} {L l k s t : Nat} (h : 2 ≤ l) : dh_pw f L l k s t (L + 1) = s := by
  unfold dh_pw
  rw [if_neg (by omega), if_pos ⟨h, rfl⟩]
theorem dh_w_lt {f : Nat → Int32} {L l x : Nat} {k s t : Int32} (h : x < L) : dh_w f L l k s t x = f x := by
  unfold dh_w
  rw [if_neg (by omega), if_neg (by omega), if_neg (by omega)]
theorem dh_w_0 {f : Nat → Int32} {L l : Nat} {k s t : Int32} : dh_w f L l k s t L = k := if_pos rfl
theorem dh_w_z {f : Nat → Int32} {L l x : Nat} {k : Int32} (h : L < x) (h2 : x < L + l) (hl : l ≤ 3) : dh_w f L l k 0 0 x = 0 := by
  unfold dh_w
  rw [if_neg (by omega)]
  by_cases h1 : x = L + 1
  · rw [if_pos ⟨by omega, h1⟩]
  · rw [if_neg (by omega), if_pos ⟨by omega, by omega⟩]
theorem dh_WF_app {L : Nat} {p : Nat → Nat} {B : Nat → Int32} (W : dh_WF L p B) {l k s t : Nat} (hl : dh_len k = l) (hL : L + l ≤ 64) (k8 : k ≤ 8) (hs : s < 256) (ht : t < 256) (o1 : k = 1 ∨ k = 2 ∨ k = 5 ∨ k = 8 → s < 4) (o2 : k = 3 → s < 16) : dh_WF (L + l) (dh_pw p L l k s t) (dh_w B L l 1 0 0) := by
  have hb := dh_len_b k
  refine ⟨hL, ?_, ?_⟩
  · intro x
    have := W.2.1 x
    unfold dh_pw
    repeat' split
    all_goals omega
  · intro x hx hbx
    by_cases h : x < L
    · rw [dh_w_lt h] at hbx
      obtain ⟨i1, i2, i3, i4, i5, i6⟩ := W.2.2 x h hbx
      have hbl := dh_len_b (p x)
      unfold dh_In
      rw [dh_pw_lt h]
      refine ⟨i1, by omega, ?_, ?_, ?_, ?_⟩
      · intro y h1 h2
        rw [dh_w_lt (by omega)]
        exact i3 y h1 h2
      · intro h1
        by_cases h2 : x + dh_len (p x) < L
        · rw [dh_w_lt h2]
          exact i4 h2
        · rw [show x + dh_len (p x) = L by omega, dh_w_0]
          decide
      · intro h1
        have : 2 ≤ dh_len (p x) := by
          rcases h1 with h1 | h1 | h1 | h1 <;> rw [h1] <;> decide
        rw [dh_pw_lt (by omega)]
        exact i5 h1
      · intro h1
        have : 2 ≤ dh_len (p x) := by
          rw [h1]; decide
        rw [dh_pw_lt (by omega)]
        exact i6 h1
    · by_cases h1 : x = L
      · subst h1
        unfold dh_In
        rw [dh_pw_0, hl]
        refine ⟨k8, by omega, fun y h1 h2 => dh_w_z h1 h2 (by omega), fun h1 => absurd h1 (by omega), ?_, ?_⟩
        · intro h1
          have : 2 ≤ dh_len k := by
            rcases h1 with h1 | h1 | h1 | h1 <;> rw [h1] <;> decide
          rw [dh_pw_1 (by omega)]
          exact o1 h1
        · intro h1
          have : 2 ≤ dh_len k := by
            rw [h1]; decide
          rw [dh_pw_1 (by omega)]
          exact o2 h1
      · exact absurd (dh_w_z (by omega) hx (by omega)) hbx
theorem dh_R_app {L : Nat} {p : Nat → Nat} {B P C M A H N K Hy Ky : Nat → Int32} (R : dh_R L p B P C M A H N K Hy Ky) (z : dh_cx H 4 = 0) {l k s t : Nat} (hl : dh_len k = l) (hL : L + l ≤ 64) (k8 : k ≤ 8) (hs : s < 256) (ht : t < 256) (o1 : k = 1 ∨ k = 2 ∨ k = 5 ∨ k = 8 → s < 4) (o2 : k = 3 → s < 16) : dh_R (L + l) (dh_pw p L l k s t) (dh_w B L l 1 0 0) (dh_w P L l (nI k) (nI s) (nI t)) (dh_w C L l (nI k) (nI s) (nI t)) M A H N K Hy Ky := by
  obtain ⟨hH, hC⟩ := dh_R_free R z
  exact dh_R_mk (dh_WF_app R.1 hl hL k8 hs ht o1 o2) (fun x => dh_w_pw (R.2.1 x) L l k s t) hH (fun x hx => dh_w_pw (hC x hx) L l k s t) R.2.2.2
theorem dh_b0 : vp_nar .boolean 0 = 0 := rfl
theorem dh_b1 : vp_nar .boolean 1 = 1 := rfl
section
variable {f_length f_writeAt f_stacked f_pc f_done f_end : Int32} {a_plain a_code a_starts a_moved a_area a_hookAt a_headLength a_count a_reg a_stack : Nat → Int32} {L : Nat} {postS : SX → Prop} {post : Int32 → SX → Prop}
theorem dx_emit {v : Int32} (hL : L < 64) (h : postS (nI (L + 1), f_writeAt, f_stacked, f_pc, f_done, f_end, upd a_plain L v, upd a_code L v, upd a_starts L 0, a_moved, a_area, a_hookAt, a_headLength, a_count, a_reg, a_stack)) : wpX_emit postS (nI L, f_writeAt, f_stacked, f_pc, f_done, f_end, a_plain, a_code, a_starts, a_moved, a_area, a_hookAt, a_headLength, a_count, a_reg, a_stack) v := by
  have hi : vp_in (nI L) 64 := vp_in_nI hL (by decide)
  have e : (nI L).toNatClampNeg = L := nI_clamp (by omega)
  exact And.intro hi (nm_r (congrArg (fun z => upd a_plain z v) e) ⟨hi, nm_r (congrArg (fun z => upd a_code z v) e) ⟨hi, nm_r (congrArg (fun z => upd a_starts z 0) e) (nm_r (nI_1 L) h)⟩⟩)
theorem dx_append {l k : Nat} {s t : Int32} (hl : dh_len k = l) (k8 : k ≤ 8) (hL : L ≤ 64) (h1 : dh_cx a_hookAt 4 ≠ 0 → post (-3) (nI L, f_writeAt, f_stacked, f_pc, f_done, f_end, a_plain, a_code, a_starts, a_moved, a_area, a_hookAt, a_headLength, a_count, a_reg, a_stack)) (h2 : dh_cx a_hookAt 4 = 0 → 64 < L + l → post (-2) (nI L, f_writeAt, f_stacked, f_pc, f_done, f_end, a_plain, a_code, a_starts, a_moved, a_area, a_hookAt, a_headLength, a_count, a_reg, a_stack)) (h3 : dh_cx a_hookAt 4 = 0 → L + l ≤ 64 → post (nI L) (nI (L + l), f_writeAt, f_stacked, f_pc, f_done, f_end, dh_w a_plain L l (nI k) s t, dh_w a_code L l (nI k) s t, dh_w a_starts L l 1 0 0, a_moved, a_area, a_hookAt, a_headLength, a_count, a_reg, a_stack)) : wpX_append post (nI L, f_writeAt, f_stacked, f_pc, f_done, f_end, a_plain, a_code, a_starts, a_moved, a_area, a_hookAt, a_headLength, a_count, a_reg, a_stack) (nI k) s t := by
  have hc := dh_cx_le (H := a_hookAt) 4
  have i1 := dh_nl0 (c := dh_cx a_hookAt 4) (by omega)
  have hb := dh_len_b k
  have e : (nI L).toNatClampNeg = L := nI_clamp (by omega)
  unfold wpX_append
  refine dx_hooks (br_c (fun z => dx_lengthOf (by omega) ?_) (fun z => h1 (fun z' => z (i1.mpr z'))))
  rw [hl] at hb ⊢
  have z0 := i1.mp z
  refine pk_le (L + l) 64 (fun h => dx_emit (by omega) (And.intro (vp_in_nI (by omega) (by decide)) (nm_r (e' := upd a_starts L 1) ?_ ?_))) (fun h => h2 z0 h) (nI_add L l)
  · rw [e, dh_b1, dh_uu]
  · have h3 := h3 z0 h
    have hl3 : l = 1 ∨ l = 2 ∨ l = 3 := by omega
    rcases hl3 with rfl | rfl | rfl
    · rw [← dh_w1, ← dh_w1, ← dh_w1] at h3
      exact br_t (by decide) (br_t (by decide) h3)
    · rw [← dh_w2, ← dh_w2, ← dh_w2] at h3
      exact br_f (by decide) (dx_emit (by omega) (br_t (by decide) h3))
    · rw [← dh_w3, ← dh_w3, ← dh_w3] at h3
      exact br_f (by decide) (dx_emit (by omega) (br_f (by decide) (dx_emit (by omega) h3)))
end
section
variable {g_length g_held g_at g_ending g_executed : Int32} {b_code b_begins b_registers b_hooked b_count b_returns : Nat → Int32} {L : Nat} {post : Int32 → SY → Prop} {J : Int32 → Int32 → (Nat → Int32) → (Nat → Int32) → (Nat → Int32) → (Nat → Int32) → (Nat → Int32) → (Nat → Int32) → Prop} {x1 x2 x3 x4 x5 x6 : Int32}
theorem dy_ap0 {z : Int32} (hL : L < 64) (h : J (nI 1) (nI (L + 1)) (upd b_code L z) (upd b_begins L 1) b_registers b_hooked b_count b_returns) : wY_append_76 post J x1 x2 x3 x4 x5 0 z (nI L) (nI L) g_held g_at g_ending g_executed b_code b_begins b_registers b_hooked b_count b_returns := by
  have hi : vp_in (nI L) 64 := vp_in_nI hL (by decide)
  have e : (nI L).toNatClampNeg = L := nI_clamp (by omega)
  exact And.intro hi (nm_r (congrArg (fun y => upd b_code y z) e) (br_t rfl (And.intro hi (nm_r (congrArg (fun y => upd b_begins y 1) e) (nm_r (nI_1 L) (nm_r (nI_1 0) h))))))
theorem dy_ap1 {z : Int32} {i : Nat} (hi : 0 < i) (hi2 : i < 100) (hL : L < 64) (h : J (nI (i + 1)) (nI (L + 1)) (upd b_code L z) (upd b_begins L 0) b_registers b_hooked b_count b_returns) : wY_append_76 post J x1 x2 x3 x4 x5 (nI i) z (nI L) (nI L) g_held g_at g_ending g_executed b_code b_begins b_registers b_hooked b_count b_returns := by
  have hin : vp_in (nI L) 64 := vp_in_nI hL (by decide)
  have e : (nI L).toNatClampNeg = L := nI_clamp (by omega)
  exact And.intro hin (nm_r (congrArg (fun y => upd b_code y z) e) (br_f (nI_ne0 hi (by omega)) (And.intro hin (nm_r (congrArg (fun y => upd b_begins y 0) e) (nm_r (nI_1 L) (nm_r (nI_1 i) h))))))
theorem dy_append {l k : Nat} {s t s' t' : Int32} (hl : dh_len k = l) (k8 : k ≤ 8) (hL : L ≤ 64) (es : s' &&& 255 = s) (et : t' &&& 255 = t) (hc : dh_cy b_hooked 64 < 100) (h1 : dh_cy b_hooked 64 ≠ 0 → post (-3) (nI L, g_held, g_at, g_ending, g_executed, b_code, b_begins, b_registers, b_hooked, b_count, b_returns)) (h2 : dh_cy b_hooked 64 = 0 → 64 < L + l → post (-2) (nI L, g_held, g_at, g_ending, g_executed, b_code, b_begins, b_registers, b_hooked, b_count, b_returns)) (h3 : dh_cy b_hooked 64 = 0 → L + l ≤ 64 → post (nI L) (nI (L + l), g_held, g_at, g_ending, g_executed, dh_w b_code L l (nI k) s t, dh_w b_begins L l 1 0 0, b_registers, b_hooked, b_count, b_returns)) : wpY_append post (nI L, g_held, g_at, g_ending, g_executed, b_code, b_begins, b_registers, b_hooked, b_count, b_returns) (nI l) (nI k) s' t' := by
  have i1 := dh_nl0 (c := dh_cy b_hooked 64) hc
  have hb := dh_len_b k
  rw [hl] at hb
  subst es et
  unfold wpY_append
  refine dy_hooks (br_c (fun z => ?_) (fun z => h1 (fun z' => z (i1.mpr z'))))
  have z0 := i1.mp z
  refine pk_le (L + l) 64 (fun h => ?_) (fun h => h2 z0 h) (nI_add L l)
  have h3 := h3 z0 h
  have hl3 : l = 1 ∨ l = 2 ∨ l = 3 := by omega
  rcases hl3 with rfl | rfl | rfl
  · rw [← dh_w1, ← dh_w1] at h3
    exact Exists.intro 2 (br_f (by decide) (br_t rfl (dy_ap0 (by omega) (br_t (by decide) h3))))
  · rw [← dh_w2, ← dh_w2] at h3
    exact Exists.intro 3 (br_f (by decide) (br_t rfl (dy_ap0 (by omega) (br_f (by decide) (br_f (by decide) (br_t rfl (dy_ap1 (i := 1) (by omega) (by omega) (by omega) (br_t (by decide) h3))))))))
  · rw [← dh_w3, ← dh_w3] at h3
    exact Exists.intro 4 (br_f (by decide) (br_t rfl (dy_ap0 (by omega) (br_f (by decide) (br_f (by decide) (br_t rfl (dy_ap1 (i := 1) (by omega) (by omega) (by omega) (br_f (by decide) (br_f (by decide) (br_f (by decide) (dy_ap1 (i := 2) (by omega) (by omega) (by omega) (br_t (by decide) h3))))))))))))
end
section
variable {f_length f_writeAt f_stacked f_pc f_done f_end : Int32} {a_plain a_code a_starts a_moved a_area a_hookAt a_headLength a_count a_reg a_stack : Nat → Int32} {g_held g_at : Int32} {b_hooked b_count b_returns : Nat → Int32} {L kk : Nat} {p : Nat → Nat}
theorem dh_append (R : dh_R L p a_starts a_plain a_code a_moved a_area a_hookAt a_headLength a_count b_hooked b_count) {l k s t : Nat} {s' t' : Int32} (hl : dh_len k = l) (k8 : k ≤ 8) (hs : s < 256) (ht : t < 256) (o1 : k = 1 ∨ k = 2 ∨ k = 5 ∨ k = 8 → s < 4) (o2 : k = 3 → s < 16) (es : s' &&& 255 = nI s) (et : t' &&& 255 = nI t) : ∃ (r : Int32) (u' : SX) (v' : SY), i_Rel kk u' v' ∧ (∀ post : Int32 → SX → Prop, post r u' → wpX_append post (nI L, f_writeAt, f_stacked, f_pc, f_done, f_end, a_plain, a_code, a_starts, a_moved, a_area, a_hookAt, a_headLength, a_count, a_reg, a_stack) (nI k) (nI s) (nI t)) ∧ (∀ post : Int32 → SY → Prop, post r v' → wpY_append post (nI L, g_held, g_at, f_end, f_done, a_plain, a_starts, a_reg, b_hooked, b_count, b_returns) (nI l) (nI k) s' t') := by
  have ec := R.2.2.2.2.2
  have hL := R.1.1
  have hc := dh_cx_le (H := a_hookAt) 4
  by_cases z : dh_cx a_hookAt 4 = 0
  · by_cases h : L + l ≤ 64
    · refine ⟨nI L, (nI (L + l), f_writeAt, f_stacked, f_pc, f_done, f_end, dh_w a_plain L l (nI k) (nI s) (nI t), dh_w a_code L l (nI k) (nI s) (nI t), dh_w a_starts L l 1 0 0, a_moved, a_area, a_hookAt, a_headLength, a_count, a_reg, a_stack), (nI (L + l), g_held, g_at, f_end, f_done, dh_w a_plain L l (nI k) (nI s) (nI t), dh_w a_starts L l 1 0 0, a_reg, b_hooked, b_count, b_returns), dh_mk (dh_R_app R z hl h k8 hs ht o1 o2), fun post hp => ?_, fun post hp => ?_⟩
      · exact dx_append hl k8 hL (fun n => absurd z n) (fun _ n => absurd h (by omega)) (fun _ _ => hp)
      · exact dy_append hl k8 hL es et (by omega) (fun n => absurd (ec.trans z) n) (fun _ n => absurd h (by omega)) (fun _ _ => hp)
    · refine ⟨-2, (nI L, f_writeAt, f_stacked, f_pc, f_done, f_end, a_plain, a_code, a_starts, a_moved, a_area, a_hookAt, a_headLength, a_count, a_reg, a_stack), (nI L, g_held, g_at, f_end, f_done, a_plain, a_starts, a_reg, b_hooked, b_count, b_returns), dh_mk R, fun post hp => ?_, fun post hp => ?_⟩
      · exact dx_append hl k8 hL (fun n => absurd z n) (fun _ _ => hp) (fun _ n => absurd n h)
      · exact dy_append hl k8 hL es et (by omega) (fun n => absurd (ec.trans z) n) (fun _ _ => hp) (fun _ n => absurd n h)
  · refine ⟨-3, (nI L, f_writeAt, f_stacked, f_pc, f_done, f_end, a_plain, a_code, a_starts, a_moved, a_area, a_hookAt, a_headLength, a_count, a_reg, a_stack), (nI L, g_held, g_at, f_end, f_done, a_plain, a_starts, a_reg, b_hooked, b_count, b_returns), dh_mk R, fun post hp => ?_, fun post hp => ?_⟩
    · exact dx_append hl k8 hL (fun _ => hp) (fun n => absurd n z) (fun n => absurd n z)
    · exact dy_append hl k8 hL es et (by omega) (fun _ => hp) (fun n => absurd n (by omega)) (fun n => absurd n (by omega))
end
theorem dh_byte {t : Int32} (h1 : -128 ≤ t.toInt) (h2 : t.toInt ≤ 127) : ∃ b, b < 256 ∧ (0 ≤ t → t = nI b) ∧ (¬ 0 ≤ t → t + 256 = nI b) ∧ t &&& 255 = nI b := by
  have e0 : (0 : Int32).toInt = 0 := by decide
  have e2 : (256 : Int32).toInt = 256 := by decide
  have ea := pk_and t (m := 255) 8 (by decide)
  have ei : t.toInt = t.toBitVec.toInt := rfl
  rw [BitVec.toInt_eq_toNat_cond] at ei
  have hlt := t.toBitVec.isLt
  refine ⟨t.toBitVec.toNat % 2 ^ 8, by omega, fun h => ?_, fun h => ?_, ea⟩
  · rw [Int32.le_iff_toInt_le, e0] at h
    apply Int32.toInt_inj.mp
    rw [nI_toInt (by omega)]
    split at ei <;> omega
  · rw [Int32.le_iff_toInt_le, e0] at h
    apply Int32.toInt_inj.mp
    rw [nI_toInt (by omega), Int32.toInt_add, e2, Int.bmod_eq_of_le (by omega) (by omega)]
    split at ei <;> omega
theorem dh_m255 {s : Nat} (h : s < 256) : nI s &&& 255 = nI s := by
  rw [pk_andN (by omega) 8 (by decide), show s % 2 ^ 8 = s by omega]
end
section
theorem i_vc_halt {k : Nat} {u : SX} {v : SY} (I : i_Rel k u v) (hk : k + 3 ≤ 1536) : wpX_halt (fun r u' => wpY_halt (fun r' v' => r' = r ∧ i_Rel (k + 3) u' v') v) u := by
  refine dh_el (fun u v => wpX_halt (fun r u' => wpY_halt (fun r' v' => r' = r ∧ i_Rel (k + 3) u' v') v) u) I ?_
  intro L p f_writeAt f_stacked f_pc f_done f_end a_plain a_code a_starts a_moved a_area a_hookAt a_headLength a_count a_reg a_stack g_held g_at b_hooked b_count b_returns R
  unfold wpX_halt wpY_halt
  obtain ⟨r1, u1, v1', hR, hX, hY⟩ := dh_append (kk := k + 3) (f_writeAt := f_writeAt) (f_stacked := f_stacked) (f_pc := f_pc) (f_done := f_done) (f_end := f_end) (a_reg := a_reg) (a_stack := a_stack) (g_held := g_held) (g_at := g_at) (b_returns := b_returns) R (k := 0) (l := 1) (s := 0) (t := 0) (s' := 0) (t' := 0) (by decide) (by decide) (by omega) (by omega) (by omega) (by omega) (by decide) (by decide)
  exact hX _ (hY _ ⟨rfl, hR⟩)
theorem i_vc_giveBack {k : Nat} {u : SX} {v : SY} (I : i_Rel k u v) (hk : k + 3 ≤ 1536) : wpX_giveBack (fun r u' => wpY_giveBack (fun r' v' => r' = r ∧ i_Rel (k + 3) u' v') v) u := by
  refine dh_el (fun u v => wpX_giveBack (fun r u' => wpY_giveBack (fun r' v' => r' = r ∧ i_Rel (k + 3) u' v') v) u) I ?_
  intro L p f_writeAt f_stacked f_pc f_done f_end a_plain a_code a_starts a_moved a_area a_hookAt a_headLength a_count a_reg a_stack g_held g_at b_hooked b_count b_returns R
  unfold wpX_giveBack wpY_giveBack
  obtain ⟨r1, u1, v1', hR, hX, hY⟩ := dh_append (kk := k + 3) (f_writeAt := f_writeAt) (f_stacked := f_stacked) (f_pc := f_pc) (f_done := f_done) (f_end := f_end) (a_reg := a_reg) (a_stack := a_stack) (g_held := g_held) (g_at := g_at) (b_returns := b_returns) R (k := 7) (l := 1) (s := 0) (t := 0) (s' := 0) (t' := 0) (by decide) (by decide) (by omega) (by omega) (by omega) (by omega) (by decide) (by decide)
  exact hX _ (hY _ ⟨rfl, hR⟩)
theorem i_vc_inc {k : Nat} {u : SX} {v : SY} (I : i_Rel k u v) (hk : k + 3 ≤ 1536) (v1 : Int32) : wpX_inc (fun r u' => wpY_inc (fun r' v' => r' = r ∧ i_Rel (k + 3) u' v') v v1) u v1 := by
  refine dh_el (fun u v => wpX_inc (fun r u' => wpY_inc (fun r' v' => r' = r ∧ i_Rel (k + 3) u' v') v v1) u v1) I ?_
  intro L p f_writeAt f_stacked f_pc f_done f_end a_plain a_code a_starts a_moved a_area a_hookAt a_headLength a_count a_reg a_stack g_held g_at b_hooked b_count b_returns R
  unfold wpX_inc wpY_inc
  refine dx_badReg (fun r hr e => br_t rfl ?_) (fun hn => br_f (by decide) (dy_isReg (fun r hr e => absurd e (hn r hr)) (fun _ => br_t rfl ⟨rfl, dh_mk R⟩)))
  subst e
  obtain ⟨r1, u1, v1', hR, hX, hY⟩ := dh_append (kk := k + 3) (f_writeAt := f_writeAt) (f_stacked := f_stacked) (f_pc := f_pc) (f_done := f_done) (f_end := f_end) (a_reg := a_reg) (a_stack := a_stack) (g_held := g_held) (g_at := g_at) (b_returns := b_returns) R (k := 1) (l := 2) (s := r) (t := 0) (s' := nI r) (t' := 0) (by decide) (by decide) (by omega) (by omega) (fun _ => hr) (by omega) (dh_m255 (by omega)) (by decide)
  exact hX _ (dy_isReg (fun _ _ _ => br_f (by decide) (hY _ ⟨rfl, hR⟩)) (fun hn => absurd rfl (hn r hr)))
theorem i_vc_dec {k : Nat} {u : SX} {v : SY} (I : i_Rel k u v) (hk : k + 3 ≤ 1536) (v1 : Int32) : wpX_dec (fun r u' => wpY_dec (fun r' v' => r' = r ∧ i_Rel (k + 3) u' v') v v1) u v1 := by
  refine dh_el (fun u v => wpX_dec (fun r u' => wpY_dec (fun r' v' => r' = r ∧ i_Rel (k + 3) u' v') v v1) u v1) I ?_
  intro L p f_writeAt f_stacked f_pc f_done f_end a_plain a_code a_starts a_moved a_area a_hookAt a_headLength a_count a_reg a_stack g_held g_at b_hooked b_count b_returns R
  unfold wpX_dec wpY_dec
  refine dx_badReg (fun r hr e => br_t rfl ?_) (fun hn => br_f (by decide) (dy_isReg (fun r hr e => absurd e (hn r hr)) (fun _ => br_t rfl ⟨rfl, dh_mk R⟩)))
  subst e
  obtain ⟨r1, u1, v1', hR, hX, hY⟩ := dh_append (kk := k + 3) (f_writeAt := f_writeAt) (f_stacked := f_stacked) (f_pc := f_pc) (f_done := f_done) (f_end := f_end) (a_reg := a_reg) (a_stack := a_stack) (g_held := g_held) (g_at := g_at) (b_returns := b_returns) R (k := 2) (l := 2) (s := r) (t := 0) (s' := nI r) (t' := 0) (by decide) (by decide) (by omega) (by omega) (fun _ => hr) (by omega) (dh_m255 (by omega)) (by decide)
  exact hX _ (dy_isReg (fun _ _ _ => br_f (by decide) (hY _ ⟨rfl, hR⟩)) (fun hn => absurd rfl (hn r hr)))
theorem i_vc_where {k : Nat} {u : SX} {v : SY} (I : i_Rel k u v) (hk : k + 3 ≤ 1536) (v1 : Int32) : wpX_where (fun r u' => wpY_where (fun r' v' => r' = r ∧ i_Rel (k + 3) u' v') v v1) u v1 := by
  refine dh_el (fun u v => wpX_where (fun r u' => wpY_where (fun r' v' => r' = r ∧ i_Rel (k + 3) u' v') v v1) u v1) I ?_
  intro L p f_writeAt f_stacked f_pc f_done f_end a_plain a_code a_starts a_moved a_area a_hookAt a_headLength a_count a_reg a_stack g_held g_at b_hooked b_count b_returns R
  unfold wpX_where wpY_where
  refine dx_badReg (fun r hr e => br_t rfl ?_) (fun hn => br_f (by decide) (dy_isReg (fun r hr e => absurd e (hn r hr)) (fun _ => br_t rfl ⟨rfl, dh_mk R⟩)))
  subst e
  obtain ⟨r1, u1, v1', hR, hX, hY⟩ := dh_append (kk := k + 3) (f_writeAt := f_writeAt) (f_stacked := f_stacked) (f_pc := f_pc) (f_done := f_done) (f_end := f_end) (a_reg := a_reg) (a_stack := a_stack) (g_held := g_held) (g_at := g_at) (b_returns := b_returns) R (k := 8) (l := 2) (s := r) (t := 0) (s' := nI r) (t' := 0) (by decide) (by decide) (by omega) (by omega) (fun _ => hr) (by omega) (dh_m255 (by omega)) (by decide)
  exact hX _ (dy_isReg (fun _ _ _ => br_f (by decide) (hY _ ⟨rfl, hR⟩)) (fun hn => absurd rfl (hn r hr)))
theorem i_vc_move {k : Nat} {u : SX} {v : SY} (I : i_Rel k u v) (hk : k + 3 ≤ 1536) (v1 : Int32) (v2 : Int32) : wpX_move (fun r u' => wpY_move (fun r' v' => r' = r ∧ i_Rel (k + 3) u' v') v v1 v2) u v1 v2 := by
  refine dh_el (fun u v => wpX_move (fun r u' => wpY_move (fun r' v' => r' = r ∧ i_Rel (k + 3) u' v') v v1 v2) u v1 v2) I ?_
  intro L p f_writeAt f_stacked f_pc f_done f_end a_plain a_code a_starts a_moved a_area a_hookAt a_headLength a_count a_reg a_stack g_held g_at b_hooked b_count b_returns R
  unfold wpX_move wpY_move
  refine dx_badReg (fun r hr e => br_t rfl ?_) (fun hn => br_f (by decide) (dy_isReg (fun r hr e => absurd e (hn r hr)) (fun _ => br_t rfl ⟨rfl, dh_mk R⟩)))
  subst e
  refine dx_badReg (fun s hs e => br_t rfl ?_) (fun hn => br_f (by decide) (dy_isReg (fun _ _ _ => br_f (by decide) (dy_isReg (fun r hr e => absurd e (hn r hr)) (fun _ => br_t rfl ⟨rfl, dh_mk R⟩))) (fun hn => absurd rfl (hn r hr))))
  subst e
  have es : nI r + 4 * nI s = nI (r + 4 * s) := by rw [show (4 : Int32) = nI 4 from rfl, pk_mul, nI_add]
  obtain ⟨r1, u1, v1', hR, hX, hY⟩ := dh_append (kk := k + 3) (f_writeAt := f_writeAt) (f_stacked := f_stacked) (f_pc := f_pc) (f_done := f_done) (f_end := f_end) (a_reg := a_reg) (a_stack := a_stack) (g_held := g_held) (g_at := g_at) (b_returns := b_returns) R (k := 3) (l := 2) (s := r + 4 * s) (t := 0) (s' := nI (r + 4 * s)) (t' := 0) (by decide) (by decide) (by omega) (by omega) (by omega) (by omega) (dh_m255 (by omega)) (by decide)
  rw [← es] at hX hY
  exact hX _ (dy_isReg (fun _ _ _ => br_f (by decide) (dy_isReg (fun _ _ _ => br_f (by decide) (hY _ ⟨rfl, hR⟩)) (fun hn => absurd rfl (hn s hs)))) (fun hn => absurd rfl (hn r hr)))
theorem i_vc_jump {k : Nat} {u : SX} {v : SY} (I : i_Rel k u v) (hk : k + 3 ≤ 1536) (v1 : Int32) : wpX_jump (fun r u' => wpY_jump (fun r' v' => r' = r ∧ i_Rel (k + 3) u' v') v v1) u v1 := by
  refine dh_el (fun u v => wpX_jump (fun r u' => wpY_jump (fun r' v' => r' = r ∧ i_Rel (k + 3) u' v') v v1) u v1) I ?_
  intro L p f_writeAt f_stacked f_pc f_done f_end a_plain a_code a_starts a_moved a_area a_hookAt a_headLength a_count a_reg a_stack g_held g_at b_hooked b_count b_returns R
  unfold wpX_jump wpY_jump
  refine dx_badTarget (fun c1 c2 => br_t rfl ?_) (fun hn => br_f (by decide) (dy_isTarget (fun c1 c2 => absurd ⟨c1, c2⟩ hn) (fun _ => br_t rfl ⟨rfl, dh_mk R⟩)))
  obtain ⟨b, hb, b1, b2, b3⟩ := dh_byte c1 c2
  obtain ⟨r1, u1, v1', hR, hX, hY⟩ := dh_append (kk := k + 3) (f_writeAt := f_writeAt) (f_stacked := f_stacked) (f_pc := f_pc) (f_done := f_done) (f_end := f_end) (a_reg := a_reg) (a_stack := a_stack) (g_held := g_held) (g_at := g_at) (b_returns := b_returns) R (k := 4) (l := 2) (s := b) (t := 0) (s' := v1) (t' := 0) (by decide) (by decide) (by omega) (by omega) (by omega) (by omega) b3 (by decide)
  exact dx_asByte b1 b2 (hX _ (dy_isTarget (fun _ _ => br_f (by decide) (hY _ ⟨rfl, hR⟩)) (fun hn => absurd ⟨c1, c2⟩ hn)))
theorem i_vc_call {k : Nat} {u : SX} {v : SY} (I : i_Rel k u v) (hk : k + 3 ≤ 1536) (v1 : Int32) : wpX_call (fun r u' => wpY_call (fun r' v' => r' = r ∧ i_Rel (k + 3) u' v') v v1) u v1 := by
  refine dh_el (fun u v => wpX_call (fun r u' => wpY_call (fun r' v' => r' = r ∧ i_Rel (k + 3) u' v') v v1) u v1) I ?_
  intro L p f_writeAt f_stacked f_pc f_done f_end a_plain a_code a_starts a_moved a_area a_hookAt a_headLength a_count a_reg a_stack g_held g_at b_hooked b_count b_returns R
  unfold wpX_call wpY_call
  refine dx_badTarget (fun c1 c2 => br_t rfl ?_) (fun hn => br_f (by decide) (dy_isTarget (fun c1 c2 => absurd ⟨c1, c2⟩ hn) (fun _ => br_t rfl ⟨rfl, dh_mk R⟩)))
  obtain ⟨b, hb, b1, b2, b3⟩ := dh_byte c1 c2
  obtain ⟨r1, u1, v1', hR, hX, hY⟩ := dh_append (kk := k + 3) (f_writeAt := f_writeAt) (f_stacked := f_stacked) (f_pc := f_pc) (f_done := f_done) (f_end := f_end) (a_reg := a_reg) (a_stack := a_stack) (g_held := g_held) (g_at := g_at) (b_returns := b_returns) R (k := 6) (l := 2) (s := b) (t := 0) (s' := v1) (t' := 0) (by decide) (by decide) (by omega) (by omega) (by omega) (by omega) b3 (by decide)
  exact dx_asByte b1 b2 (hX _ (dy_isTarget (fun _ _ => br_f (by decide) (hY _ ⟨rfl, hR⟩)) (fun hn => absurd ⟨c1, c2⟩ hn)))
theorem i_vc_branch {k : Nat} {u : SX} {v : SY} (I : i_Rel k u v) (hk : k + 3 ≤ 1536) (v1 : Int32) (v2 : Int32) : wpX_branch (fun r u' => wpY_branch (fun r' v' => r' = r ∧ i_Rel (k + 3) u' v') v v1 v2) u v1 v2 := by
  refine dh_el (fun u v => wpX_branch (fun r u' => wpY_branch (fun r' v' => r' = r ∧ i_Rel (k + 3) u' v') v v1 v2) u v1 v2) I ?_
  intro L p f_writeAt f_stacked f_pc f_done f_end a_plain a_code a_starts a_moved a_area a_hookAt a_headLength a_count a_reg a_stack g_held g_at b_hooked b_count b_returns R
  unfold wpX_branch wpY_branch
  refine dx_badReg (fun r hr e => br_t rfl ?_) (fun hn => br_f (by decide) (dy_isReg (fun r hr e => absurd e (hn r hr)) (fun _ => br_t rfl ⟨rfl, dh_mk R⟩)))
  subst e
  refine dx_badTarget (fun c1 c2 => br_t rfl ?_) (fun hn => br_f (by decide) (dy_isReg (fun _ _ _ => br_f (by decide) (dy_isTarget (fun c1 c2 => absurd ⟨c1, c2⟩ hn) (fun _ => br_t rfl ⟨rfl, dh_mk R⟩))) (fun hn => absurd rfl (hn r hr))))
  obtain ⟨b, hb, b1, b2, b3⟩ := dh_byte c1 c2
  obtain ⟨r1, u1, v1', hR, hX, hY⟩ := dh_append (kk := k + 3) (f_writeAt := f_writeAt) (f_stacked := f_stacked) (f_pc := f_pc) (f_done := f_done) (f_end := f_end) (a_reg := a_reg) (a_stack := a_stack) (g_held := g_held) (g_at := g_at) (b_returns := b_returns) R (k := 5) (l := 3) (s := r) (t := b) (s' := nI r) (t' := v2) (by decide) (by decide) (by omega) (by omega) (fun _ => hr) (by omega) (dh_m255 (by omega)) b3
  exact dx_asByte b1 b2 (hX _ (dy_isReg (fun _ _ _ => br_f (by decide) (dy_isTarget (fun _ _ => br_f (by decide) (hY _ ⟨rfl, hR⟩)) (fun hn => absurd ⟨c1, c2⟩ hn))) (fun hn => absurd rfl (hn r hr))))
end
section
/-! one instruction -/
def dh_F (C A : Nat → Int32) (q : Nat) : Int32 := if q < 512 then (if q < 64 then C q else 255) else (if q - 512 < 64 then A (q - 512) else 255)
def dh_Sp (k r s : Nat) (tg nx wv pc m : Int32) (sk reg : Nat → Int32) (e : Int32) (Q : Int32 → Int32 → (Nat → Int32) → (Nat → Int32) → Int32 → Prop) : Prop :=
  match k with
  | 0 => Q pc m sk reg 1
  | 1 => Q nx m sk (upd reg r (reg r + 1)) e
  | 2 => Q nx m sk (upd reg r (reg r - 1)) e
  | 3 => Q nx m sk (upd reg r (reg s)) e
  | 4 => Q tg m sk reg e
  | 5 => (reg r = 0 → Q nx m sk reg e) ∧ (¬ reg r = 0 → Q tg m sk reg e)
  | 6 => (m = 8 → Q pc m sk reg 3) ∧ (¬ m = 8 → Q tg (m + 1) (upd sk m.toNatClampNeg nx) reg e)
  | 7 => (m = 0 → Q pc m sk reg 1) ∧ (¬ m = 0 → Q (sk (m - 1).toNatClampNeg) (m - 1) sk reg e)
  | _ => Q nx m sk (upd reg r wv) e
theorem dh_F_c {C A : Nat → Int32} {q : Nat} (h : q < 64) : dh_F C A q = C q := by
  unfold dh_F
  rw [if_pos (by omega), if_pos h]
theorem dh_F_a {C A : Nat → Int32} {i : Nat} (h : i < 64) : dh_F C A (512 + i) = A i := by
  unfold dh_F
  rw [if_neg (by omega), if_pos (by omega), Nat.add_sub_cancel_left]
theorem dh_Ad_c {C A : Nat → Int32} {q : Nat} {t : Int32} (h : q + 1 < 64) (a : dh_Ad C q t) : dh_Ad (dh_F C A) q t := by
  unfold dh_Ad
  rw [dh_F_c (by omega), dh_F_c h]
  exact a
theorem dh_Ad_a {C A : Nat → Int32} {i : Nat} {t : Int32} (h : i + 1 < 64) (a : dh_Ad A i t) : dh_Ad (dh_F C A) (512 + i) t := by
  unfold dh_Ad
  rw [dh_F_a (by omega), Nat.add_assoc, dh_F_a h]
  exact a
theorem dh_m3 {b : Nat} (h : b < 256) : nI b &&& 3 = nI (b % 4) := pk_andN (by omega) 2 (by decide)
theorem dh_c2 {b : Nat} (h : b < 256) : nI b >>> ((2 : Int32) &&& 31) = nI (b / 4) := pk_shrN (by omega) _ 2 (by decide)
section
variable {f_length f_writeAt f_stacked f_pc f_done f_end : Int32} {a_plain a_code a_starts a_moved a_area a_hookAt a_headLength a_count a_reg a_stack : Nat → Int32} {post : Int32 → Prop} {postS : SX → Prop}
theorem dx_fetch {q : Nat} (hq : q < 65536) (h : post (dh_F a_code a_area q)) : wpX_fetch post (f_length, f_writeAt, f_stacked, f_pc, f_done, f_end, a_plain, a_code, a_starts, a_moved, a_area, a_hookAt, a_headLength, a_count, a_reg, a_stack) (nI q) := by
  unfold dh_F at h
  refine pk_lt q 512 (fun h1 => br_f (nI_pos (by omega)) (pk_le 64 q (fun h2 => ?_) (fun h2 => ⟨vp_in_nI h2 (by decide), ?_⟩))) (fun h1 => nm_r (e' := nI (q - 512)) ?_ (pk_le 64 (q - 512) (fun h2 => ?_) (fun h2 => ⟨vp_in_nI h2 (by decide), ?_⟩)))
  · rw [if_pos h1, if_neg (by omega)] at h
    exact h
  · rw [if_pos h1, if_pos h2] at h
    rw [nI_clamp (by omega)]
    exact h
  · rw [show (512 : Int32) = nI 512 from rfl, pk_sub h1]
  · rw [if_neg (by omega), if_neg (by omega)] at h
    exact h
  · rw [if_neg (by omega), if_pos h2] at h
    rw [nI_clamp (by omega)]
    exact h
theorem dx_fetchAddress {q : Nat} {t : Int32} (hq : q + 1 < 65536) (ht : dh_Ad (dh_F a_code a_area) q t) (h : post t) : wpX_fetchAddress post (f_length, f_writeAt, f_stacked, f_pc, f_done, f_end, a_plain, a_code, a_starts, a_moved, a_area, a_hookAt, a_headLength, a_count, a_reg, a_stack) (nI q) := by
  unfold wpX_fetchAddress
  refine dx_fetch (by omega) ?_
  show wpX_fetch _ _ (nI q + 1)
  rw [nI_1 q]
  refine dx_fetch hq ?_
  unfold dh_Ad at ht
  show post (dh_F a_code a_area q * 256 + dh_F a_code a_area (q + 1) - 256)
  rw [ht]
  exact h
theorem dx_signed {b : Nat} (hb : b < 256) (h : post (dh_sg b)) : wpX_signed post (f_length, f_writeAt, f_stacked, f_pc, f_done, f_end, a_plain, a_code, a_starts, a_moved, a_area, a_hookAt, a_headLength, a_count, a_reg, a_stack) (nI b) := by
  unfold dh_sg at h
  refine pk_le b 127 (fun h1 => ?_) (fun h1 => ?_)
  · rw [if_pos h1] at h
    exact h
  · rw [if_neg (by omega)] at h
    exact h
theorem dx_enter {m : Nat} {p0 p1 : Int32} (hm : m ≤ 8) (h1 : nI m = 8 → postS (f_length, f_writeAt, nI m, f_pc, f_done, 3, a_plain, a_code, a_starts, a_moved, a_area, a_hookAt, a_headLength, a_count, a_reg, a_stack)) (h2 : ¬ nI m = 8 → postS (f_length, f_writeAt, nI m + 1, p1, f_done, f_end, a_plain, a_code, a_starts, a_moved, a_area, a_hookAt, a_headLength, a_count, a_reg, upd a_stack (nI m).toNatClampNeg p0)) : wpX_enter postS (f_length, f_writeAt, nI m, f_pc, f_done, f_end, a_plain, a_code, a_starts, a_moved, a_area, a_hookAt, a_headLength, a_count, a_reg, a_stack) p0 p1 := by
  refine br_c h1 (fun z => ⟨?_, nm_e (nm_e (h2 z))⟩)
  have : m ≠ 8 := by
    intro e
    subst e
    exact z rfl
  exact vp_in_nI (by omega) (by decide)
theorem dx_leave {m : Nat} (hm : m ≤ 8) (h1 : nI m = 0 → postS (f_length, f_writeAt, nI m, f_pc, f_done, 1, a_plain, a_code, a_starts, a_moved, a_area, a_hookAt, a_headLength, a_count, a_reg, a_stack)) (h2 : ¬ nI m = 0 → postS (f_length, f_writeAt, nI m - 1, a_stack (nI m - 1).toNatClampNeg, f_done, f_end, a_plain, a_code, a_starts, a_moved, a_area, a_hookAt, a_headLength, a_count, a_reg, a_stack)) : wpX_leave postS (f_length, f_writeAt, nI m, f_pc, f_done, f_end, a_plain, a_code, a_starts, a_moved, a_area, a_hookAt, a_headLength, a_count, a_reg, a_stack) := by
  refine br_c h1 (fun z => nm_e ⟨?_, nm_e (h2 z)⟩)
  have : m ≠ 0 := by
    intro e
    subst e
    exact z rfl
  rw [show (1 : Int32) = nI 1 from rfl, pk_sub (by omega)]
  exact vp_in_nI (by omega) (by decide)
theorem dx_plain {k q m b : Nat} {tg : Int32} (hk : k ≤ 8) (hq : q + 2 < 65536) (hm : m ≤ 8) (hb : b < 256) (h2 : dh_len k ≠ 1 → dh_F a_code a_area (q + 1) = nI b) (ht : k = 4 ∨ k = 6 → tg = nI (q + 2) + dh_sg b) (ht5 : k = 5 → ∃ c, c < 256 ∧ dh_F a_code a_area (q + 2) = nI c ∧ tg = nI (q + 3) + dh_sg c) (h3 : k = 3 → b < 16)
    (h : dh_Sp k (b % 4) (b / 4) tg (nI (q + dh_len k)) (nI (q + dh_len k)) (nI q) (nI m) a_stack a_reg f_end (fun pc m sk reg e => postS (f_length, f_writeAt, m, pc, f_done, e, a_plain, a_code, a_starts, a_moved, a_area, a_hookAt, a_headLength, a_count, reg, sk))) : wpX_executePlain postS (f_length, f_writeAt, nI m, nI q, f_done, f_end, a_plain, a_code, a_starts, a_moved, a_area, a_hookAt, a_headLength, a_count, a_reg, a_stack) (nI k) := by
  have hin : vp_in (nI (b % 4)) 4 := vp_in_nI (by omega) (by decide)
  have ec : (nI (b % 4)).toNatClampNeg = b % 4 := nI_clamp (by omega)
  unfold wpX_executePlain
  refine dx_lengthOf (by omega) (nm_r (nI_add q _) ?_)
  show wpX_fetch _ _ (nI q + 1)
  rw [nI_1 q]
  refine dx_fetch (by omega) ?_
  rcases dh_k9 hk with rfl | rfl | rfl | rfl | rfl | rfl | rfl | rfl | rfl
  · exact nm_e (br_t rfl h)
  · rw [h2 (by decide)]
    refine nm_r (dh_m3 hb) (br_f (by decide) (br_f (by decide) (br_f (by decide) (br_f (by decide) (br_f (by decide) (br_t rfl ⟨hin, hin, nm_r (e' := upd a_reg (b % 4) (a_reg (b % 4) + 1)) ?_ h⟩))))))
    rw [ec]
  · rw [h2 (by decide)]
    refine nm_r (dh_m3 hb) (br_f (by decide) (br_f (by decide) (br_f (by decide) (br_f (by decide) (br_f (by decide) (br_f (by decide) (br_t rfl ⟨hin, hin, nm_r (e' := upd a_reg (b % 4) (a_reg (b % 4) - 1)) ?_ h⟩)))))))
    rw [ec]
  · rw [h2 (by decide)]
    have hs : (nI b >>> ((2 : Int32) &&& 31)) &&& 3 = nI (b / 4) := by
      have := h3 rfl
      rw [dh_c2 hb, dh_m3 (by omega), show b / 4 % 4 = b / 4 by omega]
    refine nm_r (dh_m3 hb) (br_f (by decide) (br_f (by decide) (br_f (by decide) (br_f (by decide) (br_f (by decide) (br_f (by decide) (br_f (by decide) (br_t rfl ⟨?_, hin, nm_r (e' := upd a_reg (b % 4) (a_reg (b / 4))) ?_ h⟩))))))))
    · rw [hs]
      have := h3 rfl
      exact vp_in_nI (by omega) (by decide)
    · rw [hs, ec, nI_clamp (by omega)]
  · rw [h2 (by decide)]
    have e := ht (Or.inl rfl)
    refine nm_r (dh_m3 hb) (br_f (by decide) (br_f (by decide) (br_t rfl (dx_signed hb (nm_r e.symm h)))))
  · rw [h2 (by decide)]
    obtain ⟨c, c1, c2, c3⟩ := ht5 rfl
    refine nm_r (dh_m3 hb) (br_f (by decide) (br_f (by decide) (br_f (by decide) (br_t rfl ?_))))
    show wpX_fetch _ _ (nI q + 2)
    rw [show nI q + 2 = nI (q + 2) from nI_add q 2]
    refine dx_fetch (by omega) ?_
    rw [c2]
    refine dx_signed c1 ⟨hin, ?_⟩
    rw [ec]
    exact br_c h.1 (fun z => nm_r c3.symm (h.2 z))
  · rw [h2 (by decide)]
    have e := ht (Or.inr rfl)
    refine nm_r (dh_m3 hb) (br_f (by decide) (br_f (by decide) (br_f (by decide) (br_f (by decide) (br_t rfl (dx_signed hb ?_))))))
    rw [e] at h
    exact dx_enter hm h.1 h.2
  · exact nm_e (br_f (by decide) (br_t rfl (dx_leave hm h.1 h.2)))
  · rw [h2 (by decide)]
    refine nm_r (dh_m3 hb) (br_f (by decide) (br_f (by decide) (br_f (by decide) (br_f (by decide) (br_f (by decide) (br_f (by decide) (br_f (by decide) (br_f (by decide) ⟨hin, nm_r (e' := upd a_reg (b % 4) (nI (q + dh_len 8))) ?_ h⟩))))))))
    rw [ec]
theorem dx_far4 {q : Nat} {tg : Int32} (hq : q + 4 < 65536) (ht : dh_Ad (dh_F a_code a_area) (q + 1) tg) (h : postS (f_length, f_writeAt, f_stacked, tg, f_done, f_end, a_plain, a_code, a_starts, a_moved, a_area, a_hookAt, a_headLength, a_count, a_reg, a_stack)) : wpX_executeFar postS (f_length, f_writeAt, f_stacked, nI q, f_done, f_end, a_plain, a_code, a_starts, a_moved, a_area, a_hookAt, a_headLength, a_count, a_reg, a_stack) 14 := by
  refine br_t rfl ?_
  rw [nI_1 q]
  exact dx_fetchAddress (by omega) ht h
theorem dx_far6 {q m : Nat} {tg : Int32} (hq : q + 4 < 65536) (hm : m ≤ 8) (ht : dh_Ad (dh_F a_code a_area) (q + 1) tg) (h1 : nI m = 8 → postS (f_length, f_writeAt, nI m, nI q, f_done, 3, a_plain, a_code, a_starts, a_moved, a_area, a_hookAt, a_headLength, a_count, a_reg, a_stack)) (h2 : ¬ nI m = 8 → postS (f_length, f_writeAt, nI m + 1, tg, f_done, f_end, a_plain, a_code, a_starts, a_moved, a_area, a_hookAt, a_headLength, a_count, a_reg, upd a_stack (nI m).toNatClampNeg (nI (q + 3)))) : wpX_executeFar postS (f_length, f_writeAt, nI m, nI q, f_done, f_end, a_plain, a_code, a_starts, a_moved, a_area, a_hookAt, a_headLength, a_count, a_reg, a_stack) 12 := by
  refine br_f (by decide) (br_t rfl ?_)
  rw [nI_1 q]
  refine dx_fetchAddress (by omega) ht ?_
  show wpX_enter _ _ (nI q + 3) tg
  rw [show nI q + 3 = nI (q + 3) from nI_add q 3]
  exact dx_enter hm h1 h2
theorem dx_far8 {q b : Nat} {tg : Int32} (hq : q + 4 < 65536) (hb : b < 256) (e : dh_F a_code a_area (q + 1) = nI b) (ht : dh_Ad (dh_F a_code a_area) (q + 2) tg) (h : postS (f_length, f_writeAt, f_stacked, nI (q + 4), f_done, f_end, a_plain, a_code, a_starts, a_moved, a_area, a_hookAt, a_headLength, a_count, upd a_reg (b % 4) tg, a_stack)) : wpX_executeFar postS (f_length, f_writeAt, f_stacked, nI q, f_done, f_end, a_plain, a_code, a_starts, a_moved, a_area, a_hookAt, a_headLength, a_count, a_reg, a_stack) 13 := by
  have hin : vp_in (nI (b % 4)) 4 := vp_in_nI (by omega) (by decide)
  have ec : (nI (b % 4)).toNatClampNeg = b % 4 := nI_clamp (by omega)
  refine br_f (by decide) (br_f (by decide) ?_)
  rw [nI_1 q]
  refine dx_fetch (by omega) ?_
  rw [e]
  refine nm_r (dh_m3 hb) ?_
  show wpX_fetchAddress _ _ (nI q + 2)
  rw [show nI q + 2 = nI (q + 2) from nI_add q 2]
  refine dx_fetchAddress (by omega) ht (nm_r (nI_add q 4) (br_t rfl ⟨hin, nm_r (e' := upd a_reg (b % 4) tg) ?_ h⟩))
  rw [ec]
theorem dx_far5 {q b : Nat} {tg : Int32} (hq : q + 4 < 65536) (hb : b < 256) (e : dh_F a_code a_area (q + 1) = nI b) (ht : dh_Ad (dh_F a_code a_area) (q + 2) tg) (h1 : a_reg (b % 4) = 0 → postS (f_length, f_writeAt, f_stacked, nI (q + 4), f_done, f_end, a_plain, a_code, a_starts, a_moved, a_area, a_hookAt, a_headLength, a_count, a_reg, a_stack)) (h2 : ¬ a_reg (b % 4) = 0 → postS (f_length, f_writeAt, f_stacked, tg, f_done, f_end, a_plain, a_code, a_starts, a_moved, a_area, a_hookAt, a_headLength, a_count, a_reg, a_stack)) : wpX_executeFar postS (f_length, f_writeAt, f_stacked, nI q, f_done, f_end, a_plain, a_code, a_starts, a_moved, a_area, a_hookAt, a_headLength, a_count, a_reg, a_stack) 11 := by
  have hin : vp_in (nI (b % 4)) 4 := vp_in_nI (by omega) (by decide)
  have ec : (nI (b % 4)).toNatClampNeg = b % 4 := nI_clamp (by omega)
  refine br_f (by decide) (br_f (by decide) ?_)
  rw [nI_1 q]
  refine dx_fetch (by omega) ?_
  rw [e]
  refine nm_r (dh_m3 hb) ?_
  show wpX_fetchAddress _ _ (nI q + 2)
  rw [show nI q + 2 = nI (q + 2) from nI_add q 2]
  refine dx_fetchAddress (by omega) ht (nm_r (nI_add q 4) (br_f (by decide) ⟨hin, ?_⟩))
  rw [ec]
  exact br_c h1 h2
theorem dx_exec_p {q k : Nat} {d : Int32} (hq : q < 65536) (hk : k ≤ 8) (e : dh_F a_code a_area q = nI k) (h : wpX_executePlain postS (f_length, f_writeAt, f_stacked, nI q, d + 1, f_end, a_plain, a_code, a_starts, a_moved, a_area, a_hookAt, a_headLength, a_count, a_reg, a_stack) (nI k)) : wpX_execute postS (f_length, f_writeAt, f_stacked, nI q, d, f_end, a_plain, a_code, a_starts, a_moved, a_area, a_hookAt, a_headLength, a_count, a_reg, a_stack) := by
  unfold wpX_execute
  refine dx_fetch hq ?_
  rw [e]
  exact pk_eq k 9 (fun z => absurd z (by omega)) (fun _ => pk_eq k 10 (fun z => absurd z (by omega)) (fun _ => nm_e (pk_lt k 11 (fun _ => h) (fun z => absurd z (by omega)))))
theorem dx_exec_f {q k : Nat} {d : Int32} (hq : q < 65536) (hk : k = 11 ∨ k = 12 ∨ k = 13 ∨ k = 14) (e : dh_F a_code a_area q = nI k) (h : wpX_executeFar postS (f_length, f_writeAt, f_stacked, nI q, d + 1, f_end, a_plain, a_code, a_starts, a_moved, a_area, a_hookAt, a_headLength, a_count, a_reg, a_stack) (nI k)) : wpX_execute postS (f_length, f_writeAt, f_stacked, nI q, d, f_end, a_plain, a_code, a_starts, a_moved, a_area, a_hookAt, a_headLength, a_count, a_reg, a_stack) := by
  unfold wpX_execute
  refine dx_fetch hq ?_
  rw [e]
  exact pk_eq k 9 (fun z => absurd z (by omega)) (fun _ => pk_eq k 10 (fun z => absurd z (by omega)) (fun _ => nm_e (pk_lt k 11 (fun z => absurd z (by omega)) (fun _ => h))))
/-- a jump that is not counted as executed -/
theorem dx_exec_9 {q : Nat} {t : Int32} (hq : q + 2 < 65536) (e : dh_F a_code a_area q = 9) (ht : dh_Ad (dh_F a_code a_area) (q + 1) t) (h : postS (f_length, f_writeAt, f_stacked, t, f_done, f_end, a_plain, a_code, a_starts, a_moved, a_area, a_hookAt, a_headLength, a_count, a_reg, a_stack)) : wpX_execute postS (f_length, f_writeAt, f_stacked, nI q, f_done, f_end, a_plain, a_code, a_starts, a_moved, a_area, a_hookAt, a_headLength, a_count, a_reg, a_stack) := by
  unfold wpX_execute
  refine dx_fetch (by omega) ?_
  rw [e]
  refine br_t rfl ?_
  show wpX_fetchAddress _ _ (nI q + 1)
  rw [nI_1 q]
  exact dx_fetchAddress (by omega) ht h
theorem dx_exec_10 {q s : Nat} (hq : q + 2 < 65536) (hs : s < 4) (e : dh_F a_code a_area q = 10) (e2 : dh_F a_code a_area (q + 1) = nI s) (h : postS (f_length, f_writeAt, f_stacked, nI (q + 2), f_done, f_end, a_plain, a_code, a_starts, a_moved, a_area, a_hookAt, a_headLength, upd a_count s (a_count s + 1), a_reg, a_stack)) : wpX_execute postS (f_length, f_writeAt, f_stacked, nI q, f_done, f_end, a_plain, a_code, a_starts, a_moved, a_area, a_hookAt, a_headLength, a_count, a_reg, a_stack) := by
  have hin : vp_in (nI s) 4 := vp_in_nI hs (by decide)
  unfold wpX_execute
  refine dx_fetch (by omega) ?_
  rw [e]
  refine br_f (by decide) (br_t rfl ?_)
  show wpX_fetch _ _ (nI q + 1)
  rw [nI_1 q]
  refine dx_fetch (by omega) ?_
  rw [e2]
  refine nm_r (e' := nI s) ?_ ⟨hin, hin, nm_r (e' := upd a_count s (a_count s + 1)) ?_ (nm_r (nI_add q 2) h)⟩
  · rw [dh_m3 (by omega), show s % 4 = s by omega]
  · rw [nI_clamp (by omega)]
end
end
section
/-! one instruction: X in the plain code, X in the second area, Y -/
section
variable {f_length f_writeAt f_stacked f_pc f_done f_end : Int32} {a_plain a_code a_starts a_moved a_area a_hookAt a_headLength a_count a_reg a_stack : Nat → Int32} {postS : SX → Prop} {p : Nat → Nat} {L m x : Nat}
theorem dx_step_plain (W : dh_WF L p a_starts) (hx : x < L) (hbx : a_starts x ≠ 0) (hC : ∀ y, x ≤ y → y < x + dh_len (p x) → a_code y = nI (p y)) (hm : m ≤ 8) (h : dh_Sp (p x) (p (x + 1) % 4) (p (x + 1) / 4) (dh_tg p x) (nI (x + dh_len (p x))) (nI (x + dh_len (p x))) (nI x) (nI m) a_stack a_reg f_end (fun pc m sk reg e => postS (f_length, f_writeAt, m, pc, f_done + 1, e, a_plain, a_code, a_starts, a_moved, a_area, a_hookAt, a_headLength, a_count, reg, sk))) : wpX_execute postS (f_length, f_writeAt, nI m, nI x, f_done, f_end, a_plain, a_code, a_starts, a_moved, a_area, a_hookAt, a_headLength, a_count, a_reg, a_stack) := by
  have hL := W.1
  have I := W.2.2 x hx hbx
  have hl := dh_len_b (p x)
  obtain ⟨i1, i2, i3, i4, i5, i6⟩ := I
  refine dx_exec_p (by omega) i1 (by rw [dh_F_c (by omega)]; exact hC x (by omega) (by omega)) (dx_plain (b := p (x + 1)) (tg := dh_tg p x) i1 (by omega) hm (W.2.1 _) ?_ ?_ ?_ i6 h)
  · intro h2
    rw [dh_F_c (by omega)]
    exact hC (x + 1) (by omega) (by omega)
  · intro h2
    have e : dh_len (p x) = 2 := by
      rcases h2 with h2 | h2 <;> rw [h2] <;> rfl
    unfold dh_tg
    rw [e]
    rfl
  · intro h2
    have e : dh_len (p x) = 3 := by
      rw [h2]
      rfl
    refine ⟨p (x + 2), W.2.1 _, ?_, ?_⟩
    · rw [dh_F_c (by omega)]
      exact hC (x + 2) (by omega) (by omega)
    · unfold dh_tg
      rw [e]
      rfl
theorem dh_Sp_p {k r s : Nat} {tg tg' nx wv wv' pc m : Int32} {sk reg : Nat → Int32} {e : Int32} {Q : Int32 → Int32 → (Nat → Int32) → (Nat → Int32) → Int32 → Prop} (hk : k ≤ 3 ∨ k = 7) (h : dh_Sp k r s tg nx wv pc m sk reg e Q) : dh_Sp k r s tg' nx wv' pc m sk reg e Q := by
  have hk : k = 0 ∨ k = 1 ∨ k = 2 ∨ k = 3 ∨ k = 7 := by omega
  rcases hk with rfl | rfl | rfl | rfl | rfl <;> exact h
theorem dh_rl_len {k : Nat} (hk : k ≤ 3 ∨ k = 7) : dh_rl k = dh_len k := by
  unfold dh_rl dh_len
  repeat' split
  all_goals omega
theorem dh_F_a1 {C A : Nat → Int32} {i : Nat} (j : Nat) (h : i + j < 64) : dh_F C A (512 + i + j) = A (i + j) := by
  rw [Nat.add_assoc]
  exact dh_F_a h
theorem dh_Ad_a1 {C A : Nat → Int32} {i : Nat} {t : Int32} (j : Nat) (h : i + j + 1 < 64) (a : dh_Ad A (i + j) t) : dh_Ad (dh_F C A) (512 + i + j) t := by
  rw [Nat.add_assoc]
  exact dh_Ad_a h a
theorem dx_sa_p {i : Nat} (W : dh_WF L p a_starts) (hx : x < L) (hbx : a_starts x ≠ 0) (hi : i + 4 ≤ 64) (hr : dh_Rl p a_area x i) (hm : m ≤ 8) (hk : p x ≤ 3 ∨ p x = 7) (h : dh_Sp (p x) (p (x + 1) % 4) (p (x + 1) / 4) (dh_tg p x) (nI (512 + i + dh_rl (p x))) (nI (x + dh_len (p x))) (nI (512 + i)) (nI m) a_stack a_reg f_end (fun pc m sk reg e => postS (f_length, f_writeAt, m, pc, f_done + 1, e, a_plain, a_code, a_starts, a_moved, a_area, a_hookAt, a_headLength, a_count, reg, sk))) : wpX_execute postS (f_length, f_writeAt, nI m, nI (512 + i), f_done, f_end, a_plain, a_code, a_starts, a_moved, a_area, a_hookAt, a_headLength, a_count, a_reg, a_stack) := by
  obtain ⟨i1, i2, i3, i4, i5, i6⟩ := W.2.2 x hx hbx
  obtain ⟨r4, r5, r6, r8, r0, r1⟩ := hr
  have hb := W.2.1 (x + 1)
  have e0 : dh_F a_code a_area (512 + i) = a_area i := dh_F_a (by omega)
  have e1 : dh_F a_code a_area (512 + i + 1) = a_area (i + 1) := dh_F_a1 1 (by omega)
  rw [dh_rl_len hk] at h
  refine dx_exec_p (k := p x) (by omega) i1 (by rw [e0, r0 hk]) (dx_plain (b := p (x + 1)) (tg := dh_tg p x) i1 (by omega) hm hb (fun z => ?_) (by omega) (by omega) i6 (dh_Sp_p hk h))
  rw [e1]
  refine r1 ?_ ?_
  · by_cases y : p x = 0
    · rw [y] at z
      exact absurd rfl z
    · omega
  · by_cases y : p x = 7
    · rw [y] at z
      exact absurd rfl z
    · omega
theorem dx_sa_4 {i : Nat} {nx wv : Int32} {r s : Nat} {tg : Int32} (hi : i + 4 ≤ 64) (k1 : a_area i = 14) (k2 : dh_Ad a_area (i + 1) tg) (h : dh_Sp 4 r s tg nx wv (nI (512 + i)) (nI m) a_stack a_reg f_end (fun pc m sk reg e => postS (f_length, f_writeAt, m, pc, f_done + 1, e, a_plain, a_code, a_starts, a_moved, a_area, a_hookAt, a_headLength, a_count, reg, sk))) : wpX_execute postS (f_length, f_writeAt, nI m, nI (512 + i), f_done, f_end, a_plain, a_code, a_starts, a_moved, a_area, a_hookAt, a_headLength, a_count, a_reg, a_stack) := by
  have e0 : dh_F a_code a_area (512 + i) = nI 14 := (dh_F_a (by omega)).trans k1
  exact dx_exec_f (k := 14) (by omega) (by omega) e0 (dx_far4 (by omega) (dh_Ad_a1 1 (by omega) k2) h)
theorem dx_sa_5 {i : Nat} {wv : Int32} {b s : Nat} {tg : Int32} (hi : i + 4 ≤ 64) (hb : b < 256) (k1 : a_area i = 11) (k2 : a_area (i + 1) = nI b) (k3 : dh_Ad a_area (i + 2) tg) (h : dh_Sp 5 (b % 4) s tg (nI (512 + i + 4)) wv (nI (512 + i)) (nI m) a_stack a_reg f_end (fun pc m sk reg e => postS (f_length, f_writeAt, m, pc, f_done + 1, e, a_plain, a_code, a_starts, a_moved, a_area, a_hookAt, a_headLength, a_count, reg, sk))) : wpX_execute postS (f_length, f_writeAt, nI m, nI (512 + i), f_done, f_end, a_plain, a_code, a_starts, a_moved, a_area, a_hookAt, a_headLength, a_count, a_reg, a_stack) := by
  have e0 : dh_F a_code a_area (512 + i) = nI 11 := (dh_F_a (by omega)).trans k1
  have e1 : dh_F a_code a_area (512 + i + 1) = nI b := (dh_F_a1 1 (by omega)).trans k2
  exact dx_exec_f (k := 11) (by omega) (by omega) e0 (dx_far5 (by omega) hb e1 (dh_Ad_a1 2 (by omega) k3) h.1 h.2)
theorem dx_sa_6 {i : Nat} {wv : Int32} {r s : Nat} {tg : Int32} (hi : i + 4 ≤ 64) (hm : m ≤ 8) (k1 : a_area i = 12) (k2 : dh_Ad a_area (i + 1) tg) (h : dh_Sp 6 r s tg (nI (512 + i + 3)) wv (nI (512 + i)) (nI m) a_stack a_reg f_end (fun pc m sk reg e => postS (f_length, f_writeAt, m, pc, f_done + 1, e, a_plain, a_code, a_starts, a_moved, a_area, a_hookAt, a_headLength, a_count, reg, sk))) : wpX_execute postS (f_length, f_writeAt, nI m, nI (512 + i), f_done, f_end, a_plain, a_code, a_starts, a_moved, a_area, a_hookAt, a_headLength, a_count, a_reg, a_stack) := by
  have e0 : dh_F a_code a_area (512 + i) = nI 12 := (dh_F_a (by omega)).trans k1
  exact dx_exec_f (k := 12) (by omega) (by omega) e0 (dx_far6 (by omega) hm (dh_Ad_a1 1 (by omega) k2) h.1 h.2)
theorem dx_sa_8 {i : Nat} {tg wv : Int32} {b s : Nat} (hi : i + 4 ≤ 64) (hb : b < 256) (k1 : a_area i = 13) (k2 : a_area (i + 1) = nI b) (k3 : dh_Ad a_area (i + 2) wv) (h : dh_Sp 8 (b % 4) s tg (nI (512 + i + 4)) wv (nI (512 + i)) (nI m) a_stack a_reg f_end (fun pc m sk reg e => postS (f_length, f_writeAt, m, pc, f_done + 1, e, a_plain, a_code, a_starts, a_moved, a_area, a_hookAt, a_headLength, a_count, reg, sk))) : wpX_execute postS (f_length, f_writeAt, nI m, nI (512 + i), f_done, f_end, a_plain, a_code, a_starts, a_moved, a_area, a_hookAt, a_headLength, a_count, a_reg, a_stack) := by
  have e0 : dh_F a_code a_area (512 + i) = nI 13 := (dh_F_a (by omega)).trans k1
  have e1 : dh_F a_code a_area (512 + i + 1) = nI b := (dh_F_a1 1 (by omega)).trans k2
  exact dx_exec_f (k := 13) (by omega) (by omega) e0 (dx_far8 (by omega) hb e1 (dh_Ad_a1 2 (by omega) k3) h)
theorem dx_step_area {i : Nat} (W : dh_WF L p a_starts) (hx : x < L) (hbx : a_starts x ≠ 0) (hi : i + 4 ≤ 64) (hr : dh_Rl p a_area x i) (hm : m ≤ 8) (h : dh_Sp (p x) (p (x + 1) % 4) (p (x + 1) / 4) (dh_tg p x) (nI (512 + i + dh_rl (p x))) (nI (x + dh_len (p x))) (nI (512 + i)) (nI m) a_stack a_reg f_end (fun pc m sk reg e => postS (f_length, f_writeAt, m, pc, f_done + 1, e, a_plain, a_code, a_starts, a_moved, a_area, a_hookAt, a_headLength, a_count, reg, sk))) : wpX_execute postS (f_length, f_writeAt, nI m, nI (512 + i), f_done, f_end, a_plain, a_code, a_starts, a_moved, a_area, a_hookAt, a_headLength, a_count, a_reg, a_stack) := by
  have i1 := (W.2.2 x hx hbx).1
  have hr' := hr
  obtain ⟨r4, r5, r6, r8, r0, r1⟩ := hr
  have hb := W.2.1 (x + 1)
  have hk : (p x ≤ 3 ∨ p x = 7) ∨ p x = 4 ∨ p x = 5 ∨ p x = 6 ∨ p x = 8 := by omega
  rcases hk with e | e | e | e | e
  · exact dx_sa_p W hx hbx hi hr' hm e h
  · obtain ⟨k1, k2⟩ := r4 e
    rw [e] at h
    exact dx_sa_4 hi k1 k2 h
  · obtain ⟨k1, k2, k3⟩ := r5 e
    rw [e, show dh_rl 5 = 4 from rfl] at h
    exact dx_sa_5 hi hb k1 k2 k3 h
  · obtain ⟨k1, k2⟩ := r6 e
    rw [e, show dh_rl 6 = 3 from rfl] at h
    exact dx_sa_6 hi hm k1 k2 h
  · obtain ⟨k1, k2, k3⟩ := r8 e
    rw [e, show dh_rl 8 = 4 from rfl, show dh_len 8 = 2 from rfl] at h
    exact dx_sa_8 hi hb k1 k2 k3 h
end
def dh_ky (Hy Ky : Nat → Int32) (x : Nat) : Nat → Int32 := if Hy x = 0 then Ky else upd Ky x (Ky x + 1)
section
variable {g_length g_held g_at g_ending g_executed : Int32} {b_code b_begins b_registers b_hooked b_count b_returns : Nat → Int32} {postS : SY → Prop} {p : Nat → Nat} {L m x : Nat}
theorem dy_go_e {k : Nat} {nx : Int32} (W : dh_WF L p b_begins) (hP : ∀ x, b_code x = nI (p x)) (hx : x < L) (hbx : b_begins x ≠ 0) (hk : k = 1 ∨ k = 2 ∨ k = 3 ∨ k = 8) (h : postS (nI L, g_held, nx, g_ending, g_executed, b_code, b_begins, b_registers, b_hooked, b_count, b_returns)) : wpY_goOn postS (nI L, g_held, nI x, g_ending, g_executed, b_code, b_begins, b_registers, b_hooked, b_count, b_returns) (nI k) nx := by
  rcases hk with rfl | rfl | rfl | rfl
  all_goals unfold wpY_goOn
  all_goals exact dy_targetOf W hP hx hbx (br_f (by decide) (br_f (by decide) (br_f (by decide) (br_f (by decide) (br_f (by decide) (br_f (by decide) (br_f (by decide) h)))))))
theorem dy_go_0 {nx : Int32} (W : dh_WF L p b_begins) (hP : ∀ x, b_code x = nI (p x)) (hx : x < L) (hbx : b_begins x ≠ 0) (h : postS (nI L, g_held, nI x, 1, g_executed, b_code, b_begins, b_registers, b_hooked, b_count, b_returns)) : wpY_goOn postS (nI L, g_held, nI x, g_ending, g_executed, b_code, b_begins, b_registers, b_hooked, b_count, b_returns) (nI 0) nx := by
  unfold wpY_goOn
  exact dy_targetOf W hP hx hbx (br_t rfl h)
theorem dy_go_4 {nx : Int32} (W : dh_WF L p b_begins) (hP : ∀ x, b_code x = nI (p x)) (hx : x < L) (hbx : b_begins x ≠ 0) (h : postS (nI L, g_held, dh_tgt p x, g_ending, g_executed, b_code, b_begins, b_registers, b_hooked, b_count, b_returns)) : wpY_goOn postS (nI L, g_held, nI x, g_ending, g_executed, b_code, b_begins, b_registers, b_hooked, b_count, b_returns) (nI 4) nx := by
  unfold wpY_goOn
  exact dy_targetOf W hP hx hbx (br_f (by decide) (br_f (by decide) (br_f (by decide) (br_f (by decide) (br_f (by decide) (br_f (by decide) (br_t rfl h)))))))
theorem dy_go_5 {nx : Int32} (W : dh_WF L p b_begins) (hP : ∀ x, b_code x = nI (p x)) (hx : x < L) (hbx : b_begins x ≠ 0) (h1 : x + 1 < 64) (h4 : p (x + 1) < 4) (h : (b_registers (p (x + 1)) = 0 → postS (nI L, g_held, nx, g_ending, g_executed, b_code, b_begins, b_registers, b_hooked, b_count, b_returns)) ∧ (¬ b_registers (p (x + 1)) = 0 → postS (nI L, g_held, dh_tgt p x, g_ending, g_executed, b_code, b_begins, b_registers, b_hooked, b_count, b_returns))) : wpY_goOn postS (nI L, g_held, nI x, g_ending, g_executed, b_code, b_begins, b_registers, b_hooked, b_count, b_returns) (nI 5) nx := by
  have e : b_code (nI x + 1).toNatClampNeg = nI (p (x + 1)) := by rw [nI_1 x, nI_clamp (by omega), hP]
  unfold wpY_goOn
  refine dy_targetOf W hP hx hbx (br_f (by decide) (br_f (by decide) (br_f (by decide) (br_f (by decide) (br_f (by decide) (br_t rfl ⟨by rw [nI_1 x]; exact vp_in_nI h1 (by decide), ?_⟩))))))
  rw [e, nI_clamp (by omega)]
  exact ⟨vp_in_nI h4 (by decide), h⟩
theorem dy_go_6 {nx : Int32} (W : dh_WF L p b_begins) (hP : ∀ x, b_code x = nI (p x)) (hx : x < L) (hbx : b_begins x ≠ 0) (hm : m ≤ 8) (h1 : nI m = 8 → postS (nI L, nI m, nI x, 3, g_executed, b_code, b_begins, b_registers, b_hooked, b_count, b_returns)) (h2 : ¬ nI m = 8 → postS (nI L, nI m + 1, dh_tgt p x, g_ending, g_executed, b_code, b_begins, b_registers, b_hooked, b_count, upd b_returns (nI m).toNatClampNeg nx)) : wpY_goOn postS (nI L, nI m, nI x, g_ending, g_executed, b_code, b_begins, b_registers, b_hooked, b_count, b_returns) (nI 6) nx := by
  unfold wpY_goOn
  refine dy_targetOf W hP hx hbx (br_f (by decide) (br_f (by decide) (br_f (by decide) (br_t rfl (br_c h1 (fun z => br_t rfl ⟨?_, nm_e (nm_e (h2 z))⟩))))))
  have : m ≠ 8 := by
    intro e
    subst e
    exact z rfl
  exact vp_in_nI (by omega) (by decide)
theorem dy_go_7 {nx : Int32} (W : dh_WF L p b_begins) (hP : ∀ x, b_code x = nI (p x)) (hx : x < L) (hbx : b_begins x ≠ 0) (hm : m ≤ 8) (h1 : nI m = 0 → postS (nI L, nI m, nI x, 1, g_executed, b_code, b_begins, b_registers, b_hooked, b_count, b_returns)) (h2 : ¬ nI m = 0 → postS (nI L, nI m - 1, b_returns (nI m - 1).toNatClampNeg, g_ending, g_executed, b_code, b_begins, b_registers, b_hooked, b_count, b_returns)) : wpY_goOn postS (nI L, nI m, nI x, g_ending, g_executed, b_code, b_begins, b_registers, b_hooked, b_count, b_returns) (nI 7) nx := by
  unfold wpY_goOn
  refine dy_targetOf W hP hx hbx (br_f (by decide) (br_t rfl (br_c h1 (fun z => br_t rfl (nm_e ⟨?_, nm_e (h2 z)⟩)))))
  have : m ≠ 0 := by
    intro e
    subst e
    exact z rfl
  rw [show (1 : Int32) = nI 1 from rfl, pk_sub (by omega)]
  exact vp_in_nI (by omega) (by decide)
theorem dy_e69 {k b : Nat} {z : Int32} (W : dh_WF L p b_begins) (hP : ∀ x, b_code x = nI (p x)) (hx : x < L) (hbx : b_begins x ≠ 0) (hm : m ≤ 8) (hk : p x = k) (hb : p (x + 1) = b) (hz : dh_len k ≠ 1 → z = nI b) (h : dh_Sp k (b % 4) (b / 4) (dh_tg p x) (nI (x + dh_len k)) (nI (x + dh_len k)) (nI x) (nI m) b_returns b_registers g_ending (fun at' m rt reg e => postS (nI L, m, at', e, g_executed, b_code, b_begins, reg, b_hooked, b_count, rt))) : wY_execute_69 postS (nI k) (nI (x + dh_len k)) z (nI L) (nI m) (nI x) g_ending g_executed b_code b_begins b_registers b_hooked b_count b_returns := by
  have hL := W.1
  obtain ⟨i1, i2, i3, i4, i5, i6⟩ := W.2.2 x hx hbx
  have hb2 := W.2.1 (x + 1)
  rw [hk] at i1 i2 i5 i6
  rw [hb] at i5 i6 hb2
  have hin : vp_in (nI (b % 4)) 4 := vp_in_nI (by omega) (by decide)
  have ec : (nI (b % 4)).toNatClampNeg = b % 4 := nI_clamp (by omega)
  have et : 4 ≤ k ∧ k ≤ 6 → dh_tgt p x = dh_tg p x := by
    intro h
    rw [dh_tgt, hk, if_pos h]
  rcases dh_k9 i1 with rfl | rfl | rfl | rfl | rfl | rfl | rfl | rfl | rfl
  · exact nm_e (br_f (by decide) (br_f (by decide) (br_f (by decide) (br_f (by decide) (dy_go_0 W hP hx hbx h)))))
  · rw [hz (by decide)]
    refine nm_r (dh_m3 hb2) (br_t rfl ⟨hin, hin, nm_r (e' := upd b_registers (b % 4) (b_registers (b % 4) + 1)) ?_ (dy_go_e W hP hx hbx (by omega) h)⟩)
    rw [ec]
  · rw [hz (by decide)]
    refine nm_r (dh_m3 hb2) (br_f (by decide) (br_t rfl ⟨hin, hin, nm_r (e' := upd b_registers (b % 4) (b_registers (b % 4) - 1)) ?_ (dy_go_e W hP hx hbx (by omega) h)⟩))
    rw [ec]
  · rw [hz (by decide)]
    have i6 := i6 rfl
    refine nm_r (dh_m3 hb2) (br_f (by decide) (br_f (by decide) (br_t rfl ⟨?_, hin, nm_r (e' := upd b_registers (b % 4) (b_registers (b / 4))) ?_ (dy_go_e W hP hx hbx (by omega) h)⟩)))
    · rw [dh_c2 hb2]
      exact vp_in_nI (by omega) (by decide)
    · rw [ec, dh_c2 hb2, nI_clamp (by omega)]
  · rw [← et (by omega)] at h
    exact nm_e (br_f (by decide) (br_f (by decide) (br_f (by decide) (br_f (by decide) (dy_go_4 W hP hx hbx h)))))
  · rw [← et (by omega)] at h
    have i5 := i5 (by omega)
    rw [show b % 4 = b by omega, ← hb] at h
    have i2' : x + 3 ≤ L := i2
    exact nm_e (br_f (by decide) (br_f (by decide) (br_f (by decide) (br_f (by decide) (dy_go_5 W hP hx hbx (by omega) (by omega) h)))))
  · rw [← et (by omega)] at h
    exact nm_e (br_f (by decide) (br_f (by decide) (br_f (by decide) (br_f (by decide) (dy_go_6 W hP hx hbx hm h.1 h.2)))))
  · exact nm_e (br_f (by decide) (br_f (by decide) (br_f (by decide) (br_f (by decide) (dy_go_7 W hP hx hbx hm h.1 h.2)))))
  · rw [hz (by decide)]
    refine nm_r (dh_m3 hb2) (br_f (by decide) (br_f (by decide) (br_f (by decide) (br_t rfl ⟨hin, nm_r (e' := upd b_registers (b % 4) (nI (x + dh_len 8))) ?_ (dy_go_e W hP hx hbx (by omega) h)⟩))))
    rw [ec]
theorem dy_e25 (W : dh_WF L p b_begins) (hP : ∀ x, b_code x = nI (p x)) (hx : x < L) (hbx : b_begins x ≠ 0) (hm : m ≤ 8) (h : dh_Sp (p x) (p (x + 1) % 4) (p (x + 1) / 4) (dh_tg p x) (nI (x + dh_len (p x))) (nI (x + dh_len (p x))) (nI x) (nI m) b_returns b_registers g_ending (fun at' m rt reg e => postS (nI L, m, at', e, g_executed, b_code, b_begins, reg, b_hooked, b_count, rt))) : wY_execute_25 postS (nI L) (nI m) (nI x) g_ending g_executed b_code b_begins b_registers b_hooked b_count b_returns := by
  have hL := W.1
  have I := W.2.2 x hx hbx
  have hl := dh_len_b (p x)
  have i2 := I.2.1
  refine And.intro (vp_in_nI (by omega) (by decide)) (nm_r (e' := nI (p x)) ?_ (dy_nextOf hL I (pk_eq (dh_len (p x)) 1 (fun l1 => ?_) (fun l1 => ⟨?_, ?_⟩) ?_)))
  · rw [nI_clamp (by omega), hP]
  · exact dy_e69 W hP hx hbx hm rfl rfl (fun n => absurd l1 n) h
  · rw [nI_1 x]
    exact vp_in_nI (by omega) (by decide)
  · exact dy_e69 W hP hx hbx hm rfl rfl (fun n => by rw [nI_1 x, nI_clamp (by omega), hP]) h
  · rw [pk_sub (by omega), Nat.add_sub_cancel_left]
theorem dy_exec (W : dh_WF L p b_begins) (hP : ∀ x, b_code x = nI (p x)) (hx : x < L) (hbx : b_begins x ≠ 0) (hm : m ≤ 8) (h : dh_Sp (p x) (p (x + 1) % 4) (p (x + 1) / 4) (dh_tg p x) (nI (x + dh_len (p x))) (nI (x + dh_len (p x))) (nI x) (nI m) b_returns b_registers g_ending (fun at' m rt reg e => postS (nI L, m, at', e, g_executed, b_code, b_begins, reg, b_hooked, dh_ky b_hooked b_count x, rt))) : wpY_execute postS (nI L, nI m, nI x, g_ending, g_executed, b_code, b_begins, b_registers, b_hooked, b_count, b_returns) := by
  have hL := W.1
  have hin : vp_in (nI x) 64 := vp_in_nI (by omega) (by decide)
  have ec : (nI x).toNatClampNeg = x := nI_clamp (by omega)
  refine And.intro hin (br_c (fun z => ?_) (fun z => ⟨hin, hin, nm_r (e' := upd b_count x (b_count x + 1)) ?_ ?_⟩))
  · rw [ec] at z
    rw [dh_ky, if_pos z] at h
    exact dy_e25 W hP hx hbx hm h
  · rw [ec]
  · rw [ec] at z
    rw [dh_ky, if_neg z] at h
    exact dy_e25 W hP hx hbx hm h
end
end
section
/-! running: the two machines in step -/
def dh_At (L : Nat) (p : Nat → Nat) (B H : Nat → Int32) (pc at' : Int32) : Prop :=
  (pc = at' ∧ (∃ w, w < 768 ∧ at' = nI w - 256) ∧ ∀ x, at' = nI x → x < L → B x ≠ 0 → ∀ h a, dh_on H h a → ¬ (a < x ∧ x < a + dh_hd p a)) ∨ ∃ h a x, dh_on H h a ∧ a < x ∧ x ≤ a + dh_hd p a ∧ (x < a + dh_hd p a → B x ≠ 0) ∧ pc = nI (512 + dh_q p B h a x) ∧ at' = nI x
theorem dh_out {T : Int32 → Int32 → Prop} {k r s m : Nat} {tg nx nx' wv pc at' : Int32} {sk rt reg : Nat → Int32} (hk : k ≤ 8) (hm : m ≤ 8) (t1 : T nx nx') (t2 : 4 ≤ k ∧ k ≤ 6 → T tg tg) (ts : ∀ j, j < m → T (sk j) (rt j)) :
    ∃ (pc1 at1 : Int32) (m1 : Nat) (sk1 rt1 reg1 : Nat → Int32) (e1 : Int32), (∀ Q, Q pc1 (nI m1) sk1 reg1 e1 → dh_Sp k r s tg nx wv pc (nI m) sk reg 0 Q) ∧ (∀ Q, Q at1 (nI m1) rt1 reg1 e1 → dh_Sp k r s tg nx' wv at' (nI m) rt reg 0 Q) ∧ m1 ≤ 8 ∧ (∀ j, j < m1 → T (sk1 j) (rt1 j)) ∧ (e1 = 0 → T pc1 at1) := by
  rcases dh_k9 hk with rfl | rfl | rfl | rfl | rfl | rfl | rfl | rfl | rfl
  · exact ⟨pc, at', m, sk, rt, reg, 1, fun Q h => h, fun Q h => h, hm, ts, fun z => absurd z (by decide)⟩
  · exact ⟨nx, nx', m, sk, rt, _, 0, fun Q h => h, fun Q h => h, hm, ts, fun _ => t1⟩
  · exact ⟨nx, nx', m, sk, rt, _, 0, fun Q h => h, fun Q h => h, hm, ts, fun _ => t1⟩
  · exact ⟨nx, nx', m, sk, rt, _, 0, fun Q h => h, fun Q h => h, hm, ts, fun _ => t1⟩
  · exact ⟨tg, tg, m, sk, rt, reg, 0, fun Q h => h, fun Q h => h, hm, ts, fun _ => t2 (by omega)⟩
  · by_cases z : reg r = 0
    · exact ⟨nx, nx', m, sk, rt, reg, 0, fun Q h => ⟨fun _ => h, fun n => absurd z n⟩, fun Q h => ⟨fun _ => h, fun n => absurd z n⟩, hm, ts, fun _ => t1⟩
    · exact ⟨tg, tg, m, sk, rt, reg, 0, fun Q h => ⟨fun n => absurd n z, fun _ => h⟩, fun Q h => ⟨fun n => absurd n z, fun _ => h⟩, hm, ts, fun _ => t2 (by omega)⟩
  · by_cases z : m = 8
    · subst z
      exact ⟨pc, at', 8, sk, rt, reg, 3, fun Q h => ⟨fun _ => h, fun n => absurd rfl n⟩, fun Q h => ⟨fun _ => h, fun n => absurd rfl n⟩, hm, ts, fun z => absurd z (by decide)⟩
    · have z8 : ¬ nI m = 8 := by
        intro e
        exact z ((nI_eq (b := 8) (by omega) (by omega)).mp e)
      have e1 : nI m + 1 = nI (m + 1) := nI_1 m
      have e2 : (nI m).toNatClampNeg = m := nI_clamp (by omega)
      refine ⟨tg, tg, m + 1, upd sk m nx, upd rt m nx', reg, 0, fun Q h => ⟨fun n => absurd n z8, fun _ => ?_⟩, fun Q h => ⟨fun n => absurd n z8, fun _ => ?_⟩, by omega, lt_s (fun j hj => ?_) ?_, fun _ => t2 (by omega)⟩
      · rw [e1, e2]
        exact h
      · rw [e1, e2]
        exact h
      · rw [pk_un (by omega), pk_un (by omega)]
        exact ts j hj
      · rw [pk_us, pk_us]
        exact t1
  · by_cases z : m = 0
    · subst z
      exact ⟨pc, at', 0, sk, rt, reg, 1, fun Q h => ⟨fun _ => h, fun n => absurd rfl n⟩, fun Q h => ⟨fun _ => h, fun n => absurd rfl n⟩, hm, ts, fun z => absurd z (by decide)⟩
    · have z8 : ¬ nI m = 0 := by
        intro e
        exact z ((nI_eq (b := 0) (by omega) (by omega)).mp e)
      have e1 : nI m - 1 = nI (m - 1) := by
        rw [show (1 : Int32) = nI 1 from rfl, pk_sub (by omega)]
      have e2 : (nI (m - 1)).toNatClampNeg = m - 1 := nI_clamp (by omega)
      refine ⟨sk (m - 1), rt (m - 1), m - 1, sk, rt, reg, 0, fun Q h => ⟨fun n => absurd n z8, fun _ => ?_⟩, fun Q h => ⟨fun n => absurd n z8, fun _ => ?_⟩, by omega, fun j hj => ts j (by omega), fun _ => ts (m - 1) (by omega)⟩
      · rw [e1, e2]
        exact h
      · rw [e1, e2]
        exact h
  · exact ⟨nx, nx', m, sk, rt, _, 0, fun Q h => h, fun Q h => h, hm, ts, fun _ => t1⟩
section
variable {L : Nat} {p : Nat → Nat} {B C M A H N K Hy Ky : Nat → Int32}
theorem dh_E_slot (E : dh_E L p B C M A H N) {h a : Nat} (o : dh_on H h a) : N h = nI (dh_hd p a) ∧ dh_Slot L p B C M A h a := by
  obtain ⟨h1, h2, h3⟩ := o
  rcases E.1 h h1 with e | ⟨a', ⟨k1, k2, k3⟩, k4, k5⟩
  · rw [e] at h3
    exact absurd h3 (dh_neg1 h2)
  · rw [k3] at h3
    have := (nI_eq (by omega) (by omega)).mp h3
    subst this
    exact ⟨k4, k5⟩
theorem dh_E_inj (W : dh_WF L p B) (E : dh_E L p B C M A H N) {h h' a : Nat} (o : dh_on H h a) (o' : dh_on H h' a) : h = h' := by
  by_cases z : h = h'
  · exact z
  · obtain ⟨_, s1, s2, _⟩ := dh_E_slot E o
    have := (dh_hd_Gd W s1 s2).2
    have := E.2.1 h h' a a o o' z
    omega
theorem dh_on_u {h a a' : Nat} (o : dh_on H h a) (o' : dh_on H h a') : a = a' := by
  have := o.2.2.symm.trans o'.2.2
  have h1 := o.2.1
  have h2 := o'.2.1
  exact (nI_eq (by omega) (by omega)).mp this
/-- the target of an instruction -/
theorem dh_At_tg (W : dh_WF L p B) (E : dh_E L p B C M A H N) {x : Nat} (hx : x < L) (hb : B x ≠ 0) (hk : 4 ≤ p x ∧ p x ≤ 6) : dh_At L p B H (dh_tg p x) (dh_tg p x) := by
  obtain ⟨w, w1, w2⟩ := dh_tg_w W hx hb
  have hL := W.1
  refine Or.inl ⟨rfl, ⟨w, by omega, w2⟩, fun y e hy hby h a o hn => ?_⟩
  obtain ⟨_, s1, s2, s3, s4, s5⟩ := dh_E_slot E o
  have g := (dh_hd_Gd W s1 s2).1.1
  refine s4 x hx ⟨hb, ?_, ?_⟩
  · rw [dh_tgt, if_pos hk, e]
    exact nI_ge hn.1 (by omega)
  · rw [dh_tgt, if_pos hk, e]
    exact nI_ge hn.2 (by omega)
/-- the next instruction, from outside of the heads -/
theorem dh_At_nx (W : dh_WF L p B) (E : dh_E L p B C M A H N) {x : Nat} (hx : x < L) (hb : B x ≠ 0) (ho : ∀ h a, dh_on H h a → ¬ (a ≤ x ∧ x < a + dh_hd p a)) : dh_At L p B H (nI (x + dh_len (p x))) (nI (x + dh_len (p x))) := by
  have hL := W.1
  obtain ⟨i1, i2, i3, i4, i5, i6⟩ := W.2.2 x hx hb
  refine Or.inl ⟨rfl, ⟨x + dh_len (p x) + 256, by omega, dh_nI_w _⟩, fun y e hy hby h a o hn => ?_⟩
  have := (nI_eq (by omega) (by omega)).mp e
  subst this
  obtain ⟨_, s1, s2, s3, s4, s5⟩ := dh_E_slot E o
  have hl := dh_len_b (p x)
  have := ho h a o
  by_cases z : a ≤ x
  · omega
  · exact s2 (i3 a (by omega) hn.1)
/-- the next instruction, inside a head -/
theorem dh_At_ar (W : dh_WF L p B) (E : dh_E L p B C M A H N) {h a x : Nat} (o : dh_on H h a) (h1 : a ≤ x) (h2 : x < a + dh_hd p a) (hb : B x ≠ 0) : dh_At L p B H (nI (512 + dh_q p B h a x + dh_rl (p x))) (nI (x + dh_len (p x))) := by
  obtain ⟨_, s1, s2, s3, s4, s5⟩ := dh_E_slot E o
  obtain ⟨k1, k2, k3⟩ := dh_hd_in W s1 s2 h1 h2 hb
  have hl := dh_len_b (p x)
  refine Or.inr ⟨h, a, x + dh_len (p x), o, by omega, k2, k3, ?_, rfl⟩
  rw [dh_q_s W h1 k1 hb, Nat.add_assoc]
theorem dh_K_no (k : dh_K H K Hy Ky) {x : Nat} (hx : x < 64) (n : ∀ h, ¬ dh_on H h x) : dh_K H K Hy (dh_ky Hy Ky x) := by
  have z : Hy x = 0 := by
    by_cases z : Hy x = 0
    · exact z
    · obtain ⟨h, o⟩ := k.2.1 x hx z
      exact absurd o (n h)
  rw [dh_ky, if_pos z]
  exact k
theorem dh_K_yes (W : dh_WF L p B) (E : dh_E L p B C M A H N) (k : dh_K H K Hy Ky) {x h : Nat} (o : dh_on H h x) : dh_K H (upd K h (K h + 1)) Hy (dh_ky Hy Ky x) := by
  obtain ⟨k1, k2⟩ := k.1 h x o
  rw [dh_ky, if_neg k1]
  refine ⟨fun h' a' o' => ⟨(k.1 h' a' o').1, ?_⟩, k.2⟩
  by_cases z : h' = h
  · subst z
    have := dh_on_u o o'
    subst this
    rw [pk_us, pk_us, k2]
  · have : a' ≠ x := by
      intro e
      subst e
      exact z (dh_E_inj W E o' o)
    rw [pk_un z, pk_un this]
    exact (k.1 h' a' o').2
end
end
section
/-! X's iterations -/
section
variable {f_length f_writeAt f_stacked f_pc f_done f_end : Int32} {a_plain a_code a_starts a_moved a_area a_hookAt a_headLength a_count a_reg a_stack : Nat → Int32} {f_length1 f_writeAt1 f_stacked1 f_pc1 f_done1 f_end1 : Int32} {a_plain1 a_code1 a_starts1 a_moved1 a_area1 a_hookAt1 a_headLength1 a_count1 a_reg1 a_stack1 : Nat → Int32} {p : Nat → Nat} {L : Nat} {post : Int32 → SX → Prop}
theorem dx_it {n i d : Nat} (hL : L ≤ 64) (hi : i < 1000) (hd : d < 200) (hpc : 512 ≤ f_pc ∨ ∃ x, x < L ∧ f_pc = nI x ∧ a_starts x ≠ 0) (hE : ∀ postS : SX → Prop, postS (f_length1, f_writeAt1, f_stacked1, f_pc1, f_done1, f_end1, a_plain1, a_code1, a_starts1, a_moved1, a_area1, a_hookAt1, a_headLength1, a_count1, a_reg1, a_stack1) → wpX_execute postS (nI L, f_writeAt, f_stacked, f_pc, nI d, 0, a_plain, a_code, a_starts, a_moved, a_area, a_hookAt, a_headLength, a_count, a_reg, a_stack)) (h : wX_run_38 post n (nI (i + 1)) f_length1 f_writeAt1 f_stacked1 f_pc1 f_done1 f_end1 a_plain1 a_code1 a_starts1 a_moved1 a_area1 a_hookAt1 a_headLength1 a_count1 a_reg1 a_stack1) : wX_run_38 post (n + 1) (nI i) (nI L) f_writeAt f_stacked f_pc (nI d) 0 a_plain a_code a_starts a_moved a_area a_hookAt a_headLength a_count a_reg a_stack := by
  have hd2 : ¬ nI d = 200 := by
    intro e
    have := (nI_eq (b := 200) (by omega) (by omega)).mp e
    omega
  refine br_f (nI_ge (b := 1000) hi (by decide)) (br_t rfl (br_f hd2 (br_c (fun z => ?_) (fun z => ?_))))
  · exact hE _ (nm_r (nI_1 i) h)
  · refine dx_isStart hL (fun hn => ?_) (fun _ _ _ _ => br_f (by decide) (hE _ (nm_r (nI_1 i) h)))
    rcases hpc with h5 | ⟨x, h5, h6, h7⟩
    · exact absurd h5 z
    · exact absurd (hn x h5 h6) h7
theorem dx_bad {n i d : Nat} (hL : L ≤ 64) (hi : i < 1000) (hd : d < 200) (hpc : ¬ 512 ≤ f_pc) (hn : ∀ x, x < L → f_pc = nI x → a_starts x = 0) (h : wX_run_38 post n (nI (i + 1)) (nI L) f_writeAt f_stacked f_pc (nI d) 2 a_plain a_code a_starts a_moved a_area a_hookAt a_headLength a_count a_reg a_stack) : wX_run_38 post (n + 1) (nI i) (nI L) f_writeAt f_stacked f_pc (nI d) 0 a_plain a_code a_starts a_moved a_area a_hookAt a_headLength a_count a_reg a_stack := by
  have hd2 : ¬ nI d = 200 := by
    intro e
    have := (nI_eq (b := 200) (by omega) (by omega)).mp e
    omega
  exact br_f (nI_ge (b := 1000) hi (by decide)) (br_t rfl (br_f hd2 (br_f hpc (dx_isStart hL (fun _ => br_t rfl (nm_r (nI_1 i) h)) (fun x h1 h2 h3 => absurd (hn x h1 h2) h3)))))
theorem dx_end {n : Nat} {y : Int32} (he : ¬ f_end = 0) (h : post f_end (f_length, f_writeAt, f_stacked, f_pc, f_done, f_end, a_plain, a_code, a_starts, a_moved, a_area, a_hookAt, a_headLength, a_count, a_reg, a_stack)) : wX_run_38 post (n + 1) y f_length f_writeAt f_stacked f_pc f_done f_end a_plain a_code a_starts a_moved a_area a_hookAt a_headLength a_count a_reg a_stack :=
  br_c (fun _ => h) (fun _ => br_f he h)
theorem dx_tired {n i : Nat} (hi : i < 1000) (h : post 4 (f_length, f_writeAt, f_stacked, f_pc, nI 200, 4, a_plain, a_code, a_starts, a_moved, a_area, a_hookAt, a_headLength, a_count, a_reg, a_stack)) : wX_run_38 post (n + 2) (nI i) f_length f_writeAt f_stacked f_pc (nI 200) 0 a_plain a_code a_starts a_moved a_area a_hookAt a_headLength a_count a_reg a_stack :=
  br_f (nI_ge (b := 1000) hi (by decide)) (br_t rfl (br_t rfl (nm_e (dx_end (by decide) h))))
end
section
variable {f_length f_writeAt f_stacked f_pc f_done f_end : Int32} {a_plain a_code a_starts a_moved a_area a_hookAt a_headLength a_count a_reg a_stack : Nat → Int32} {p : Nat → Nat} {L m d x : Nat} {Hy Ky : Nat → Int32}
/-- what one instruction asks of X, from pc -/
def dx_Mac (L : Nat) (p : Nat → Nat) (a_starts a_plain a_code a_moved a_area a_hookAt a_headLength a_count a_reg a_stack : Nat → Int32) (f_writeAt : Int32) (m d x : Nat) (Hy Ky : Nat → Int32) (pc : Int32) (jm : Nat) : Prop :=
  ∃ (pcn pce : Int32) (j : Nat) (K' : Nat → Int32), j ≤ jm ∧ dh_At L p a_starts a_hookAt pcn (nI (x + dh_len (p x))) ∧ dh_K a_hookAt K' Hy (dh_ky Hy Ky x) ∧ ∀ (pc1 m1 : Int32) (sk1 reg1 : Nat → Int32) (e1 : Int32), (∀ Q, Q pc1 m1 sk1 reg1 e1 → dh_Sp (p x) (p (x + 1) % 4) (p (x + 1) / 4) (dh_tg p x) pcn (nI (x + dh_len (p x))) pce (nI m) a_stack a_reg 0 Q) → ∀ (post : Int32 → SX → Prop) (n i : Nat), i + j ≤ 1000 → wX_run_38 post n (nI (i + j)) (nI L) f_writeAt m1 pc1 (nI (d + 1)) e1 a_plain a_code a_starts a_moved a_area a_hookAt a_headLength K' reg1 sk1 → wX_run_38 post (n + j) (nI i) (nI L) f_writeAt (nI m) pc (nI d) 0 a_plain a_code a_starts a_moved a_area a_hookAt a_headLength a_count a_reg a_stack
theorem dx_mac_pl (W : dh_WF L p a_starts) (E : dh_E L p a_starts a_code a_moved a_area a_hookAt a_headLength) (k : dh_K a_hookAt a_count Hy Ky) (hm : m ≤ 8) (hd : d < 200) (hx : x < L) (hb : a_starts x ≠ 0) (ho : ∀ h a, dh_on a_hookAt h a → ¬ (a ≤ x ∧ x < a + dh_hd p a)) : dx_Mac L p a_starts a_plain a_code a_moved a_area a_hookAt a_headLength a_count a_reg a_stack f_writeAt m d x Hy Ky (nI x) 1 := by
  have hL := W.1
  obtain ⟨i1, i2, i3, i4, i5, i6⟩ := W.2.2 x hx hb
  refine ⟨nI (x + dh_len (p x)), nI x, 1, a_count, Nat.le_refl _, dh_At_nx W E hx hb ho, dh_K_no k (by omega) (fun h o => ?_), fun pc1 m1 sk1 reg1 e1 hS post n i hi h => ?_⟩
  · obtain ⟨_, s1, s2, s3⟩ := dh_E_slot E o
    have := (dh_hd_Gd W s1 s2).2
    exact ho h x o ⟨Nat.le_refl _, by omega⟩
  · rw [← nI_1 d] at h
    refine dx_it hL (by omega) hd (Or.inr ⟨x, hx, rfl, hb⟩) (fun postS hp => dx_step_plain W hx hb (fun y h1 h2 => E.2.2 y (by omega) (fun h a o hn => ?_)) hm (hS _ hp)) h
    obtain ⟨_, s1, s2, s3⟩ := dh_E_slot E o
    have := ho h a o
    by_cases z : a ≤ x
    · omega
    · exact s2 (i3 a (by omega) (by omega))
theorem dx_mac_ar (W : dh_WF L p a_starts) (E : dh_E L p a_starts a_code a_moved a_area a_hookAt a_headLength) (hm : m ≤ 8) (hd : d < 200) {h a : Nat} (o : dh_on a_hookAt h a) (h1 : a ≤ x) (h2 : x < a + dh_hd p a) (hb : a_starts x ≠ 0) (pc1 m1 : Int32) (sk1 reg1 : Nat → Int32) (e1 : Int32) (hS : ∀ Q, Q pc1 m1 sk1 reg1 e1 → dh_Sp (p x) (p (x + 1) % 4) (p (x + 1) / 4) (dh_tg p x) (nI (512 + dh_q p a_starts h a x + dh_rl (p x))) (nI (x + dh_len (p x))) (nI (512 + dh_q p a_starts h a x)) (nI m) a_stack a_reg 0 Q) (post : Int32 → SX → Prop) (n i : Nat) (hi : i + 1 ≤ 1000) (H : wX_run_38 post n (nI (i + 1)) (nI L) f_writeAt m1 pc1 (nI (d + 1)) e1 a_plain a_code a_starts a_moved a_area a_hookAt a_headLength a_count reg1 sk1) : wX_run_38 post (n + 1) (nI i) (nI L) f_writeAt (nI m) (nI (512 + dh_q p a_starts h a x)) (nI d) 0 a_plain a_code a_starts a_moved a_area a_hookAt a_headLength a_count a_reg a_stack := by
  have hL := W.1
  have oh := o.1
  obtain ⟨_, s1, s2, s3, s4, s5⟩ := dh_E_slot E o
  obtain ⟨k1, k2, k3⟩ := dh_hd_in W s1 s2 h1 h2 hb
  have q1 := dh_q_le (h := h) W s1 s2 (x := x) (by omega)
  obtain ⟨r1, r2⟩ := s5.2.2.1 x h1 h2 hb
  rw [← nI_1 d] at H
  exact dx_it hL (by omega) hd (Or.inl (nI_le (a := 512) (by omega) (by omega))) (fun postS hp => dx_step_area W k1 hb (by omega) r1 hm (hS _ hp)) H
theorem dx_mac_in (W : dh_WF L p a_starts) (E : dh_E L p a_starts a_code a_moved a_area a_hookAt a_headLength) (k : dh_K a_hookAt a_count Hy Ky) (hm : m ≤ 8) (hd : d < 200) {h a : Nat} (o : dh_on a_hookAt h a) (h1 : a < x) (h2 : x < a + dh_hd p a) (hb : a_starts x ≠ 0) : dx_Mac L p a_starts a_plain a_code a_moved a_area a_hookAt a_headLength a_count a_reg a_stack f_writeAt m d x Hy Ky (nI (512 + dh_q p a_starts h a x)) 1 := by
  have hL := W.1
  obtain ⟨_, s1, s2, s3, s4, s5⟩ := dh_E_slot E o
  obtain ⟨k1, k2, k3⟩ := dh_hd_in W s1 s2 (by omega) h2 hb
  refine ⟨nI (512 + dh_q p a_starts h a x + dh_rl (p x)), nI (512 + dh_q p a_starts h a x), 1, a_count, Nat.le_refl _, dh_At_ar W E o (by omega) h2 hb, dh_K_no k (by omega) (fun h' o' => ?_), fun pc1 m1 sk1 reg1 e1 hS post n i hi H => dx_mac_ar W E hm hd o (by omega) h2 hb pc1 m1 sk1 reg1 e1 hS post n i hi H⟩
  by_cases z : h = h'
  · subst z
    have := dh_on_u o o'
    omega
  · obtain ⟨_, s1', s2', _⟩ := dh_E_slot E o'
    have := (dh_hd_Gd W s1' s2').2
    have := E.2.1 h h' a x o o' z
    omega
theorem dx_mac_hk (W : dh_WF L p a_starts) (E : dh_E L p a_starts a_code a_moved a_area a_hookAt a_headLength) (k : dh_K a_hookAt a_count Hy Ky) (hm : m ≤ 8) (hd : d < 200) {h : Nat} (o : dh_on a_hookAt h x) : dx_Mac L p a_starts a_plain a_code a_moved a_area a_hookAt a_headLength a_count a_reg a_stack f_writeAt m d x Hy Ky (nI x) 3 := by
  have hL := W.1
  have oh := o.1
  have slot := dh_E_slot E o
  obtain ⟨_, s1, s2, ⟨s3, s3'⟩, s4, ⟨l1, l2, l3⟩⟩ := slot
  have g := (dh_hd_Gd W s1 s2).2
  refine ⟨nI (512 + dh_q p a_starts h x x + dh_rl (p x)), nI (512 + dh_q p a_starts h x x), 3, upd a_count h (a_count h + 1), Nat.le_refl _, dh_At_ar W E o (Nat.le_refl _) (by omega) s2, dh_K_yes W E k o, fun pc1 m1 sk1 reg1 e1 hS post n i hi H => ?_⟩
  have H2 := dx_mac_ar (f_writeAt := f_writeAt) (a_plain := a_plain) (a_count := upd a_count h (a_count h + 1)) W E hm hd o (Nat.le_refl _) (by omega) s2 pc1 m1 sk1 reg1 e1 hS post n (i + 2) (by omega) H
  rw [dh_q_a] at H2
  refine dx_it hL (by omega) hd (Or.inr ⟨x, by omega, rfl, s2⟩) (fun postS hp => dx_exec_9 (t := nI (512 + 16 * h)) (by omega) ?_ (dh_Ad_c (by omega) s3') hp) (dx_it (n := n + 1) (i := i + 1) hL (by omega) hd (Or.inl (nI_le (a := 512) (by omega) (by omega))) (fun postS hp => dx_exec_10 (s := h) (by omega) oh ?_ ?_ hp) H2)
  · rw [dh_F_c (by omega)]
    exact s3
  · rw [dh_F_a (by omega)]
    exact l1
  · rw [Nat.add_assoc, dh_F_a (by omega)]
    exact l2
theorem dx_Mac_le {pc : Int32} {j j' : Nat} (h : j ≤ j') (M : dx_Mac L p a_starts a_plain a_code a_moved a_area a_hookAt a_headLength a_count a_reg a_stack f_writeAt m d x Hy Ky pc j) : dx_Mac L p a_starts a_plain a_code a_moved a_area a_hookAt a_headLength a_count a_reg a_stack f_writeAt m d x Hy Ky pc j' := by
  obtain ⟨a, b, c, e, f, g⟩ := M
  exact ⟨a, b, c, e, Nat.le_trans f h, g⟩
/-- at a start that is not strictly inside a head -/
theorem dx_mac_A (W : dh_WF L p a_starts) (E : dh_E L p a_starts a_code a_moved a_area a_hookAt a_headLength) (k : dh_K a_hookAt a_count Hy Ky) (hm : m ≤ 8) (hd : d < 200) (hx : x < L) (hb : a_starts x ≠ 0) (ho : ∀ h a, dh_on a_hookAt h a → ¬ (a < x ∧ x < a + dh_hd p a)) : dx_Mac L p a_starts a_plain a_code a_moved a_area a_hookAt a_headLength a_count a_reg a_stack f_writeAt m d x Hy Ky (nI x) 3 := by
  by_cases z : ∃ h, dh_on a_hookAt h x
  · obtain ⟨h, o⟩ := z
    exact dx_mac_hk W E k hm hd o
  · refine dx_Mac_le (by omega) (dx_mac_pl W E k hm hd hx hb (fun h a o hn => ?_))
    have : a ≠ x := by
      intro e
      subst e
      exact z ⟨h, o⟩
    exact ho h a o ⟨by omega, hn.2⟩
/-- the way back from a head: one iteration -/
theorem dx_back (W : dh_WF L p a_starts) (E : dh_E L p a_starts a_code a_moved a_area a_hookAt a_headLength) (hd : d < 200) {h a : Nat} (o : dh_on a_hookAt h a) (post : Int32 → SX → Prop) (n i : Nat) (hi : i + 1 ≤ 1000) (H : wX_run_38 post n (nI (i + 1)) (nI L) f_writeAt f_stacked (nI (a + dh_hd p a)) (nI d) 0 a_plain a_code a_starts a_moved a_area a_hookAt a_headLength a_count a_reg a_stack) : wX_run_38 post (n + 1) (nI i) (nI L) f_writeAt f_stacked (nI (512 + dh_q p a_starts h a (a + dh_hd p a))) (nI d) 0 a_plain a_code a_starts a_moved a_area a_hookAt a_headLength a_count a_reg a_stack := by
  have hL := W.1
  have oh := o.1
  obtain ⟨_, s1, s2, s3, s4, l1, l2, l3, l4, l5⟩ := dh_E_slot E o
  have q1 := dh_q_le (h := h) W s1 s2 (x := a + dh_hd p a) (Nat.le_refl _)
  refine dx_it hL (by omega) hd (Or.inl (nI_le (a := 512) (by omega) (by omega))) (fun postS hp => dx_exec_9 (by omega) ?_ (dh_Ad_a (i := dh_q p a_starts h a (a + dh_hd p a) + 1) (by omega) l5) hp) H
  rw [dh_F_a (by omega)]
  exact l4
theorem dh_behind {B C M A H N : Nat → Int32} (W : dh_WF L p B) (E : dh_E L p B C M A H N) {h a : Nat} (o : dh_on H h a) : ∀ h' a', dh_on H h' a' → ¬ (a' < a + dh_hd p a ∧ a + dh_hd p a < a' + dh_hd p a') := by
  intro h' a' o' hn
  obtain ⟨_, s1, s2, _⟩ := dh_E_slot E o
  have := (dh_hd_Gd W s1 s2).2
  by_cases z : h = h'
  · subst z
    have := dh_on_u o o'
    subst this
    omega
  · have := E.2.1 h h' a a' o o' z
    omega
theorem dx_mac (W : dh_WF L p a_starts) (E : dh_E L p a_starts a_code a_moved a_area a_hookAt a_headLength) (k : dh_K a_hookAt a_count Hy Ky) (hm : m ≤ 8) (hd : d < 200) (hx : x < L) (hb : a_starts x ≠ 0) {pc : Int32} (T : dh_At L p a_starts a_hookAt pc (nI x)) : dx_Mac L p a_starts a_plain a_code a_moved a_area a_hookAt a_headLength a_count a_reg a_stack f_writeAt m d x Hy Ky pc 4 := by
  have hL := W.1
  rcases T with ⟨rfl, _, T⟩ | ⟨h, a, y, o, t1, t2, t3, rfl, t5⟩
  · exact dx_Mac_le (by omega) (dx_mac_A W E k hm hd hx hb (T x rfl hx hb))
  · obtain ⟨_, s1, s2, s3⟩ := dh_E_slot E o
    have g := (dh_hd_Gd W s1 s2).1.1
    have := (nI_eq (by omega) (by omega)).mp t5
    subst this
    by_cases z : x < a + dh_hd p a
    · exact dx_Mac_le (by omega) (dx_mac_in W E k hm hd o t1 z hb)
    · have e : x = a + dh_hd p a := by omega
      have M := dx_mac_A (a_plain := a_plain) (a_reg := a_reg) (a_stack := a_stack) (f_writeAt := f_writeAt) W E k hm hd hx hb (by rw [e]; exact dh_behind W E o)
      obtain ⟨pcn, pce, j, K', m1, m2, m3, m4⟩ := M
      refine ⟨pcn, pce, j + 1, K', by omega, m2, m3, fun pc1 m1 sk1 reg1 e1 hS post n i hi H => ?_⟩
      have H2 := m4 pc1 m1 sk1 reg1 e1 hS post n (i + 1) (by omega) (by rw [show i + 1 + j = i + (j + 1) by omega]; exact H)
      rw [e] at H2 ⊢
      exact dx_back W E hd o post (n + j) i (by omega) H2
end
end
section
/-! the run -/
section
variable {f_length f_writeAt f_stacked f_pc f_done f_end : Int32} {a_plain a_code a_starts a_moved a_area a_hookAt a_headLength a_count a_reg a_stack : Nat → Int32} {g_length g_held g_at g_ending g_executed : Int32} {b_code b_begins b_registers b_hooked b_count b_returns : Nat → Int32} {p : Nat → Nat} {L : Nat}
theorem dy_end {post : Int32 → SY → Prop} {n : Nat} (he : ¬ g_ending = 0) (h : post g_ending (g_length, g_held, g_at, g_ending, g_executed, b_code, b_begins, b_registers, b_hooked, b_count, b_returns)) : wY_run_32 post (n + 1) g_length g_held g_at g_ending g_executed b_code b_begins b_registers b_hooked b_count b_returns :=
  br_c (fun _ => br_f he h) (fun _ => br_f he (br_f he h))
theorem dh_run (W : dh_WF L p a_starts) (hP : ∀ x, a_plain x = nI (p x)) (E : dh_E L p a_starts a_code a_moved a_area a_hookAt a_headLength) : ∀ (c d i m : Nat) (pc at' : Int32) (sk rt reg K Ky : Nat → Int32), c + d = 200 → i ≤ 4 * d → m ≤ 8 → dh_At L p a_starts a_hookAt pc at' → (∀ j, j < m → dh_At L p a_starts a_hookAt (sk j) (rt j)) → dh_K a_hookAt K b_hooked Ky →
    ∃ (pc1 at1 m1 d1 e1 : Int32) (sk1 rt1 reg1 K1 Ky1 : Nat → Int32), dh_K a_hookAt K1 b_hooked Ky1 ∧ (∀ (post : Int32 → SX → Prop) (n : Nat), 4 * c + 3 ≤ n → post e1 (nI L, f_writeAt, m1, pc1, d1, e1, a_plain, a_code, a_starts, a_moved, a_area, a_hookAt, a_headLength, K1, reg1, sk1) → wX_run_38 post n (nI i) (nI L) f_writeAt (nI m) pc (nI d) 0 a_plain a_code a_starts a_moved a_area a_hookAt a_headLength K reg sk) ∧ (∀ (post : Int32 → SY → Prop) (n : Nat), c + 2 ≤ n → post e1 (nI L, m1, at1, e1, d1, a_plain, a_starts, reg1, b_hooked, Ky1, rt1) → wY_run_32 post n (nI L) (nI m) at' 0 (nI d) a_plain a_starts reg b_hooked Ky rt) := by
  have hL := W.1
  intro c
  induction c with
  | zero =>
    intro d i m pc at' sk rt reg K Ky h1 h2 h3 T ts k
    obtain rfl : d = 200 := by omega
    refine ⟨pc, at', nI m, nI 200, 4, sk, rt, reg, K, Ky, k, fun post n hn hp => ?_, fun post n hn hp => ?_⟩
    · obtain ⟨n', rfl⟩ : ∃ n', n = n' + 2 := ⟨n - 2, by omega⟩
      exact dx_tired (by omega) hp
    · obtain ⟨n', rfl⟩ : ∃ n', n = n' + 1 := ⟨n - 1, by omega⟩
      exact br_t (by decide) (br_t rfl hp)
  | succ c ih =>
    intro d i m pc at' sk rt reg K Ky h1 h2 h3 T ts k
    have hd : d < 200 := by omega
    have hy : ¬ (200 : Int32) ≤ nI d := nI_ge (b := 200) hd (by decide)
    by_cases hs : ∃ x, x < L ∧ at' = nI x ∧ a_starts x ≠ 0
    · obtain ⟨x, hx, rfl, hb⟩ := hs
      obtain ⟨i1, i2, i3, i4, i5, i6⟩ := W.2.2 x hx hb
      obtain ⟨pcn, pce, j, K', j1, j2, j3, j4⟩ := dx_mac (a_plain := a_plain) (a_reg := reg) (a_stack := sk) (f_writeAt := f_writeAt) W E k h3 hd hx hb T
      obtain ⟨pc1, at1, m1, sk1, rt1, reg1, e1, o1, o2, o3, o4, o5⟩ := dh_out (T := dh_At L p a_starts a_hookAt) (r := p (x + 1) % 4) (s := p (x + 1) / 4) (wv := nI (x + dh_len (p x))) (pc := pce) (at' := nI x) (reg := reg) i1 h3 j2 (fun hk => dh_At_tg W E hx hb hk) ts
      have hY : ∀ (post : Int32 → SY → Prop) (n : Nat), wY_run_32 post n (nI L) (nI m1) at1 e1 (nI (d + 1)) a_plain a_starts reg1 b_hooked (dh_ky b_hooked Ky x) rt1 → wY_run_32 post (n + 1) (nI L) (nI m) (nI x) 0 (nI d) a_plain a_starts reg b_hooked Ky rt := by
        intro post n H
        exact br_f hy (br_t rfl (dy_starts hL (fun hn => absurd (hn x hx rfl) hb) (fun _ _ _ _ => br_f (by decide) (dy_exec W hP hx hb h3 (o2 _ (nm_r (nI_1 d) H))))))
      by_cases he : e1 = 0
      · subst he
        obtain ⟨pc2, at2, m2, d2, e2, sk2, rt2, reg2, K2, Ky2, q1, q2, q3⟩ := ih (d + 1) (i + j) m1 pc1 at1 sk1 rt1 reg1 K' (dh_ky b_hooked Ky x) (by omega) (by omega) o3 (o5 rfl) o4 j3
        refine ⟨pc2, at2, m2, d2, e2, sk2, rt2, reg2, K2, Ky2, q1, fun post n hn hp => ?_, fun post n hn hp => ?_⟩
        · obtain ⟨n', rfl⟩ : ∃ n', n = n' + j := ⟨n - j, by omega⟩
          exact j4 pc1 (nI m1) sk1 reg1 0 o1 post n' i (by omega) (q2 post n' (by omega) hp)
        · obtain ⟨n', rfl⟩ : ∃ n', n = n' + 1 := ⟨n - 1, by omega⟩
          exact hY post n' (q3 post n' (by omega) hp)
      · refine ⟨pc1, at1, nI m1, nI (d + 1), e1, sk1, rt1, reg1, K', _, j3, fun post n hn hp => ?_, fun post n hn hp => ?_⟩
        · obtain ⟨n', rfl⟩ : ∃ n', n = n' + 1 + j := ⟨n - j - 1, by omega⟩
          exact j4 pc1 (nI m1) sk1 reg1 e1 o1 post (n' + 1) i (by omega) (dx_end he hp)
        · obtain ⟨n', rfl⟩ : ∃ n', n = n' + 2 := ⟨n - 2, by omega⟩
          exact hY post (n' + 1) (dy_end he hp)
    · have hn : ∀ x, x < L → at' = nI x → a_starts x = 0 := by
        intro x hx e
        by_cases z : a_starts x = 0
        · exact z
        · exact absurd ⟨x, hx, e, z⟩ hs
      have hY : ∀ (post : Int32 → SY → Prop) (n : Nat), c + 1 + 2 ≤ n → post 2 (nI L, nI m, at', 2, nI d, a_plain, a_starts, reg, b_hooked, Ky, rt) → wY_run_32 post n (nI L) (nI m) at' 0 (nI d) a_plain a_starts reg b_hooked Ky rt := by
        intro post n hn2 hp
        obtain ⟨n', rfl⟩ : ∃ n', n = n' + 2 := ⟨n - 2, by omega⟩
        exact br_f hy (br_t rfl (dy_starts hL (fun _ => br_t rfl (dy_end (by decide) hp)) (fun x h1 h2 h3 => absurd (hn x h1 h2) h3)))
      rcases T with ⟨rfl, ⟨w, w1, w2⟩, T⟩ | ⟨h, a, y, o, t1, t2, t3, rfl, t5⟩
      · refine ⟨pc, pc, nI m, nI d, 2, sk, rt, reg, K, Ky, k, fun post n hn2 hp => ?_, hY⟩
        obtain ⟨n', rfl⟩ : ∃ n', n = n' + 2 := ⟨n - 2, by omega⟩
        refine dx_bad hL (by omega) hd ?_ hn (dx_end (by decide) hp)
        rw [w2, Int32.le_iff_toInt_le, dh_sub_i (by omega), show (512 : Int32).toInt = 512 from by decide]
        omega
      · obtain ⟨_, s1, s2, s3⟩ := dh_E_slot E o
        have g := (dh_hd_Gd W s1 s2).1.1
        have z : ¬ y < a + dh_hd p a := by
          intro z
          exact absurd (hn y (by omega) t5) (t3 z)
        obtain rfl : y = a + dh_hd p a := by omega
        refine ⟨at', at', nI m, nI d, 2, sk, rt, reg, K, Ky, k, fun post n hn2 hp => ?_, hY⟩
        obtain ⟨n', rfl⟩ : ∃ n', n = n' + 3 := ⟨n - 3, by omega⟩
        subst t5
        exact dx_back W E hd o post (n' + 2) i (by omega) (dx_bad hL (by omega) hd (nI_ge (b := 512) (by omega) (by omega)) hn (dx_end (by decide) hp))
theorem dx_entry_l {post : Int32 → Prop} {a : Nat} (W : dh_WF L p a_starts) (E : dh_E L p a_starts a_code a_moved a_area a_hookAt a_headLength) (ha : a < 64) (h : ∀ pc, dh_At L p a_starts a_hookAt pc (nI a) → post pc) : ∀ d i x2, i + d = 4 → ((x2 = nI a ∧ ∀ j, j < i → ∀ b, dh_on a_hookAt j b → a < L → a_starts a ≠ 0 → ¬ (b < a ∧ a < b + dh_hd p b)) ∨ ∃ j b, dh_on a_hookAt j b ∧ b < a ∧ a < b + dh_hd p b ∧ a_starts a ≠ 0 ∧ x2 = nI (512 + dh_q p a_starts j b a)) → wX_entry_4 post (nI a) (nI L) f_writeAt f_stacked f_pc f_done f_end a_plain a_code a_starts a_moved a_area a_hookAt a_headLength a_count a_reg a_stack (d + 1) x2 (nI i) := by
  have hL := W.1
  intro d
  induction d with
  | zero =>
    intro i x2 hi I
    obtain rfl : i = 4 := by omega
    refine br_t (by decide) (h _ ?_)
    rcases I with ⟨rfl, I⟩ | ⟨j, b, o, b1, b2, b3, rfl⟩
    · refine Or.inl ⟨rfl, ⟨a + 256, by omega, dh_nI_w a⟩, fun x e hx hb j b o hn => ?_⟩
      have := (nI_eq (by omega) (by omega)).mp e
      subst this
      exact I j o.1 b o hx hb hn
    · exact Or.inr ⟨j, b, a, o, b1, by omega, fun _ => b3, rfl, rfl⟩
  | succ d ih =>
    intro i x2 hi I
    have e : (nI i).toNatClampNeg = i := nI_clamp (by omega)
    have hin : vp_in (nI i) 4 := vp_in_nI (by omega) (by decide)
    have no : (∀ b, dh_on a_hookAt i b → a < L → a_starts a ≠ 0 → ¬ (b < a ∧ a < b + dh_hd p b)) → wX_entry_4 post (nI a) (nI L) f_writeAt f_stacked f_pc f_done f_end a_plain a_code a_starts a_moved a_area a_hookAt a_headLength a_count a_reg a_stack (d + 1) x2 (nI (i + 1)) := by
      intro hn
      refine ih (i + 1) _ (by omega) ?_
      rcases I with ⟨rfl, I⟩ | I
      · exact Or.inl ⟨rfl, lt_s I hn⟩
      · exact Or.inr I
    have no2 : (∀ b, dh_on a_hookAt i b → a < L → a_starts a ≠ 0 → ¬ (b < a ∧ a < b + dh_hd p b)) → wX_entry_49 post (wX_entry_4 post (nI a) (nI L) f_writeAt f_stacked f_pc f_done f_end a_plain a_code a_starts a_moved a_area a_hookAt a_headLength a_count a_reg a_stack (d + 1)) (nI a) x2 (nI i) (nI L) f_writeAt f_stacked f_pc f_done f_end a_plain a_code a_starts a_moved a_area a_hookAt a_headLength a_count a_reg a_stack :=
      fun hn => br_t rfl (nm_r (nI_1 i) (no hn))
    refine br_f (nI_ge (b := 4) (by omega) (by decide)) ⟨hin, ?_⟩
    rw [e]
    rcases E.1 i (by omega) with z | ⟨b, o, n1, s⟩
    · rw [z]
      exact br_t (by decide) (no2 (fun b o => absurd (z.symm.trans o.2.2) (dh_neg1 o.2.1)))
    · obtain ⟨o1, o2, o3⟩ := o
      have g := (dh_hd_Gd W s.1 s.2.1).1.2.2.1
      rw [o3, n1]
      refine br_f (nI_pos (by omega)) ⟨hin, pk_le a b (fun z => no2 ?_) (fun z => ⟨hin, hin, pk_le (b + dh_hd p b) a (fun z2 => no2 ?_) (fun z2 => br_f (by decide) ?_) (nI_add _ _)⟩)⟩
      · intro b' o' _ _ hn
        have := dh_on_u ⟨o1, o2, o3⟩ o'
        omega
      · intro b' o' _ _ hn
        have := dh_on_u ⟨o1, o2, o3⟩ o'
        subst this
        omega
      · refine dx_isStart hL (fun hn => br_t rfl (nm_r (nI_1 i) (no (fun b' o' h1 h2 => absurd (hn a h1 rfl) h2)))) (fun x hx ex hb => br_f (by decide) ⟨vp_in_nI ha (by decide), nm_r (e' := nI (512 + dh_q p a_starts i b a)) ?_ (nm_r (nI_1 i) (ih (i + 1) _ (by omega) (Or.inr ⟨i, b, ⟨o1, o2, o3⟩, z, z2, ?_, rfl⟩)))⟩)
        · have := (nI_eq (by omega) (by omega)).mp ex
          subst this
          rw [nI_clamp (by omega)]
          exact (s.2.2.2.2.2.2.1 a (by omega) z2 hb).2
        · have := (nI_eq (by omega) (by omega)).mp ex
          subst this
          exact hb
theorem dx_entry {post : Int32 → Prop} {a : Nat} (W : dh_WF L p a_starts) (E : dh_E L p a_starts a_code a_moved a_area a_hookAt a_headLength) (ha : a < 64) (h : ∀ pc, dh_At L p a_starts a_hookAt pc (nI a) → post pc) : wpX_entry post (nI L, f_writeAt, f_stacked, f_pc, f_done, f_end, a_plain, a_code, a_starts, a_moved, a_area, a_hookAt, a_headLength, a_count, a_reg, a_stack) (nI a) :=
  Exists.intro 5 (dx_entry_l W E ha h 4 0 _ rfl (Or.inl ⟨rfl, fun j hj => absurd hj (by omega)⟩))
end
theorem i_vc_run {k : Nat} {u : SX} {v : SY} (I : i_Rel k u v) (hk : k + 3 ≤ 1536) (v1 : Int32) : wpX_run (fun r u' => wpY_run (fun r' v' => r' = r ∧ i_Rel (k + 3) u' v') v v1) u v1 := by
  refine dh_el (fun u v => wpX_run (fun r u' => wpY_run (fun r' v' => r' = r ∧ i_Rel (k + 3) u' v') v v1) u v1) I ?_
  intro L p f_writeAt f_stacked f_pc f_done f_end a_plain a_code a_starts a_moved a_area a_hookAt a_headLength a_count a_reg a_stack g_held g_at b_hooked b_count b_returns R
  refine br_c (fun z => br_t z ⟨rfl, dh_mk R⟩) (fun z => ?_)
  obtain ⟨a, ha, rfl⟩ := nI_of z
  refine pk_lt a 64 (fun z2 => ?_) (fun z2 => br_f z (br_f (nI_ge (a := 63) (by omega) (by omega)) ⟨rfl, dh_mk R⟩))
  have hle : nI a ≤ 63 := nI_le (b := 63) (by omega) (by decide)
  obtain ⟨W, hP, E, K⟩ := R
  refine dx_entry W E z2 (fun pc T => ?_)
  obtain ⟨pc1, at1, m1, d1, e1, sk1, rt1, reg1, K1, Ky1, q1, q2, q3⟩ := dh_run (f_writeAt := f_writeAt) W hP E 200 0 0 0 pc (nI a) a_stack b_returns a_reg a_count b_count (by omega) (by omega) (by omega) T (fun j hj => absurd hj (by omega)) K
  exact Exists.intro 803 (q2 _ 803 (by omega) (br_f z (br_t hle (Exists.intro 202 (q3 _ 202 (by omega) ⟨rfl, dh_mk ⟨W, hP, E, q1⟩⟩)))))
end
section
/-! unhook -/
theorem dh_cy_out {H : Nat → Int32} {a : Nat} {v : Int32} : ∀ n, n ≤ a → dh_cy (upd H a v) n = dh_cy H n := by
  intro n
  induction n with
  | zero => intro _; rfl
  | succ n ih =>
    intro h
    have e : upd H a v n = H n := pk_un (by omega)
    by_cases z : H n = 0
    · rw [dh_cy_n z, dh_cy_n (e.trans z)]; exact ih (by omega)
    · rw [dh_cy_p z, dh_cy_p (by rw [e]; exact z), ih (by omega)]
theorem dh_cy_del {H : Nat → Int32} {a : Nat} (ha : H a ≠ 0) : ∀ n, a < n → dh_cy (upd H a 0) n + 1 = dh_cy H n := by
  intro n
  induction n with
  | zero => intro h; omega
  | succ n ih =>
    intro h
    by_cases e : n = a
    · subst e
      rw [dh_cy_p ha, dh_cy_n pk_us, dh_cy_out n (Nat.le_refl _)]
    · have e1 : upd H a 0 n = H n := pk_un e
      by_cases z : H n = 0
      · rw [dh_cy_n z, dh_cy_n (e1.trans z)]; exact ih (by omega)
      · rw [dh_cy_p z, dh_cy_p (by rw [e1]; exact z), ih (by omega)]
theorem dh_cy_add {H : Nat → Int32} {a : Nat} {v : Int32} (ha : H a = 0) (hv : ¬ v = 0) : ∀ n, a < n → dh_cy (upd H a v) n = dh_cy H n + 1 := by
  intro n
  induction n with
  | zero => intro h; omega
  | succ n ih =>
    intro h
    by_cases e : n = a
    · subst e
      rw [dh_cy_n ha, dh_cy_p (by rw [pk_us]; exact hv), dh_cy_out n (Nat.le_refl _)]
    · have e1 : upd H a v n = H n := pk_un e
      by_cases z : H n = 0
      · rw [dh_cy_n z, dh_cy_n (e1.trans z)]; exact ih (by omega)
      · rw [dh_cy_p z, dh_cy_p (by rw [e1]; exact z), ih (by omega)]
theorem dh_cx_out {H : Nat → Int32} {a : Nat} {v : Int32} : ∀ n, n ≤ a → dh_cx (upd H a v) n = dh_cx H n := by
  intro n
  induction n with
  | zero => intro _; rfl
  | succ n ih =>
    intro h
    have e : upd H a v n = H n := pk_un (by omega)
    by_cases z : H n < 0
    · rw [dh_cx_n z, dh_cx_n (by rw [e]; exact z)]; exact ih (by omega)
    · rw [dh_cx_p z, dh_cx_p (by rw [e]; exact z), ih (by omega)]
theorem dh_cx_del {H : Nat → Int32} {a : Nat} {v : Int32} (ha : ¬ H a < 0) (hv : v < 0) : ∀ n, a < n → dh_cx (upd H a v) n + 1 = dh_cx H n := by
  intro n
  induction n with
  | zero => intro h; omega
  | succ n ih =>
    intro h
    by_cases e : n = a
    · subst e
      rw [dh_cx_p ha, dh_cx_n (by rw [pk_us]; exact hv), dh_cx_out n (Nat.le_refl _)]
    · have e1 : upd H a v n = H n := pk_un e
      by_cases z : H n < 0
      · rw [dh_cx_n z, dh_cx_n (by rw [e1]; exact z)]; exact ih (by omega)
      · rw [dh_cx_p z, dh_cx_p (by rw [e1]; exact z), ih (by omega)]
theorem dh_cx_add {H : Nat → Int32} {a : Nat} {v : Int32} (ha : H a < 0) (hv : ¬ v < 0) : ∀ n, a < n → dh_cx (upd H a v) n = dh_cx H n + 1 := by
  intro n
  induction n with
  | zero => intro h; omega
  | succ n ih =>
    intro h
    by_cases e : n = a
    · subst e
      rw [dh_cx_n ha, dh_cx_p (by rw [pk_us]; exact hv), dh_cx_out n (Nat.le_refl _)]
    · have e1 : upd H a v n = H n := pk_un e
      by_cases z : H n < 0
      · rw [dh_cx_n z, dh_cx_n (by rw [e1]; exact z)]; exact ih (by omega)
      · rw [dh_cx_p z, dh_cx_p (by rw [e1]; exact z), ih (by omega)]
section
variable {L : Nat} {p : Nat → Nat} {B P C C' M A H N K Hy Ky : Nat → Int32}
theorem dh_on_del {s h a : Nat} : dh_on (upd H s (-1)) h a ↔ h ≠ s ∧ dh_on H h a := by
  constructor
  · intro ⟨h1, h2, h3⟩
    by_cases z : h = s
    · subst z
      rw [pk_us] at h3
      exact absurd h3 (dh_neg1 h2)
    · rw [pk_un z] at h3
      exact ⟨z, h1, h2, h3⟩
  · intro ⟨z, h1, h2, h3⟩
    exact ⟨h1, h2, by rw [pk_un z]; exact h3⟩
theorem dh_R_del (R : dh_R L p B P C M A H N K Hy Ky) {s a : Nat} (o : dh_on H s a) (c1 : ∀ y, a ≤ y → y < a + dh_hd p a → C' y = P y) (c2 : ∀ y, ¬ (a ≤ y ∧ y < a + dh_hd p a) → C' y = C y) : dh_R L p B P C' M A (upd H s (-1)) N K (upd Hy a 0) Ky := by
  obtain ⟨W, hP, E, k⟩ := R
  have hL := W.1
  obtain ⟨_, s1, s2, s3⟩ := dh_E_slot E o
  refine ⟨W, hP, ⟨fun h hh => ?_, fun h h' a1 a2 o1 o2 hn => ?_, fun x hx hn => ?_⟩, fun h a1 o1 => ?_, fun b hb1 hb2 => ?_, ?_⟩
  · by_cases z : h = s
    · subst z
      exact Or.inl pk_us
    · rcases E.1 h hh with e | ⟨a1, o1, n1, t1, t2, ⟨t3, t4⟩, t5, t6⟩
      · exact Or.inl (by rw [pk_un z]; exact e)
      · have g := (dh_hd_Gd W t1 t2).2
        have dj := E.2.1 h s a1 a o1 o z
        refine Or.inr ⟨a1, dh_on_del.mpr ⟨z, o1⟩, n1, t1, t2, ⟨?_, ?_⟩, t5, t6⟩
        · rw [c2 a1 (by omega)]
          exact t3
        · unfold dh_Ad
          rw [c2 (a1 + 1) (by omega), c2 (a1 + 1 + 1) (by omega)]
          exact t4
  · exact E.2.1 h h' a1 a2 (dh_on_del.mp o1).2 (dh_on_del.mp o2).2 hn
  · by_cases z : a ≤ x ∧ x < a + dh_hd p a
    · rw [c1 x z.1 z.2, hP]
    · rw [c2 x z]
      refine E.2.2 x hx (fun h a1 o1 hn1 => ?_)
      by_cases e : h = s
      · subst e
        have := dh_on_u o o1
        subst this
        exact z hn1
      · exact hn h a1 (dh_on_del.mpr ⟨e, o1⟩) hn1
  · obtain ⟨z, o1⟩ := dh_on_del.mp o1
    obtain ⟨k1, k2⟩ := k.1 h a1 o1
    refine ⟨?_, k2⟩
    rw [pk_un ?_]
    · exact k1
    · intro e
      subst e
      exact z (dh_E_inj W E o1 o)
  · by_cases e : b = a
    · subst e
      exact absurd pk_us hb2
    · rw [pk_un e] at hb2
      obtain ⟨h, o1⟩ := k.2.1 b hb1 hb2
      refine ⟨h, dh_on_del.mpr ⟨?_, o1⟩⟩
      intro e1
      subst e1
      exact e (dh_on_u o1 o)
  · have h1 := dh_cy_del (k.1 s a o).1 64 o.2.1
    have h2 := dh_cx_del (v := -1) (H := H) (a := s) (by rw [o.2.2]; exact nI_pos (by have := o.2.1; omega)) (by decide) 4 o.1
    have h3 := k.2.2
    omega
end
section
variable {f_length f_writeAt f_stacked f_pc f_done f_end : Int32} {a_plain a_code a_starts a_moved a_area a_hookAt a_headLength a_count a_reg a_stack : Nat → Int32} {p : Nat → Nat} {L : Nat} {post : Int32 → SX → Prop}
theorem dx_unhook_l {a s n : Nat} (hs : s < 4) (ha : a + n ≤ 64) (hN : a_headLength s = nI n) (h : ∀ C', (∀ y, a ≤ y → y < a + n → C' y = a_plain y) → (∀ y, ¬ (a ≤ y ∧ y < a + n) → C' y = a_code y) → post (a_count s) (f_length, f_writeAt, f_stacked, f_pc, f_done, f_end, a_plain, C', a_starts, a_moved, a_area, upd a_hookAt s (-1), a_headLength, a_count, a_reg, a_stack)) : ∀ d i C, i + d = n → (∀ y, a ≤ y → y < a + i → C y = a_plain y) → (∀ y, ¬ (a ≤ y ∧ y < a + n) → C y = a_code y) → wX_unhook_27 post (nI a) (nI s) f_length f_writeAt f_stacked f_pc f_done f_end (d + 1) (nI i) a_plain C a_starts a_moved a_area a_hookAt a_headLength a_count a_reg a_stack := by
  have hin : vp_in (nI s) 4 := vp_in_nI hs (by decide)
  have es : (nI s).toNatClampNeg = s := nI_clamp (by omega)
  intro d
  induction d with
  | zero =>
    intro i C hi c1 c2
    obtain rfl : i = n := by omega
    refine ⟨hin, ?_⟩
    rw [es, hN]
    exact br_t (nI_le (Nat.le_refl _) (by omega)) ⟨hin, nm_e ⟨hin, h C c1 c2⟩⟩
  | succ d ih =>
    intro i C hi c1 c2
    have hin2 : vp_in (nI a + nI i) 64 := by
      rw [nI_add]
      exact vp_in_nI (by omega) (by decide)
    have ei : (nI a + nI i).toNatClampNeg = a + i := by
      rw [nI_add]
      exact nI_clamp (by omega)
    refine ⟨hin, ?_⟩
    rw [es, hN]
    refine br_f (nI_ge (by omega) (by omega)) ⟨hin2, hin2, nm_r (e' := upd C (a + i) (a_plain (a + i))) ?_ (nm_r (nI_1 i) (ih (i + 1) _ (by omega) ?_ ?_))⟩
    · rw [ei]
    · intro y h1 h2
      by_cases e : y = a + i
      · rw [e, pk_us]
      · rw [pk_un e]
        exact c1 y h1 (by omega)
    · intro y hy
      rw [pk_un (by omega)]
      exact c2 y hy
end
theorem i_vc_unhook {k : Nat} {u : SX} {v : SY} (I : i_Rel k u v) (hk : k + 3 ≤ 1536) (v1 : Int32) : wpX_unhook (fun r u' => wpY_unhook (fun r' v' => r' = r ∧ i_Rel (k + 3) u' v') v v1) u v1 := by
  refine dh_el (fun u v => wpX_unhook (fun r u' => wpY_unhook (fun r' v' => r' = r ∧ i_Rel (k + 3) u' v') v v1) u v1) I ?_
  intro L p f_writeAt f_stacked f_pc f_done f_end a_plain a_code a_starts a_moved a_area a_hookAt a_headLength a_count a_reg a_stack g_held g_at b_hooked b_count b_returns R
  have hL := R.1.1
  refine br_c (fun z => br_t z ⟨rfl, dh_mk R⟩) (fun z => ?_)
  obtain ⟨a, ha, rfl⟩ := nI_of z
  refine pk_lt a 64 (fun z2 => ?_) (fun z2 => br_f z (br_f (nI_ge (a := 63) (by omega) (by omega)) ⟨rfl, dh_mk R⟩))
  have hin : vp_in (nI a) 64 := vp_in_nI z2 (by decide)
  have ec : (nI a).toNatClampNeg = a := nI_clamp (by omega)
  have hle : nI a ≤ 63 := nI_le (b := 63) (by omega) (by decide)
  refine dx_slotOf (fun hn => br_f (by decide) (br_f z (br_t hle ⟨hin, ?_⟩))) (fun h hh e => br_t (nI_pos' (by omega)) ?_)
  · rw [ec]
    refine br_t ?_ ⟨rfl, dh_mk R⟩
    by_cases hb : b_hooked a = 0
    · exact hb
    · obtain ⟨h, h1, h2, h3⟩ := R.2.2.2.2.1 a z2 hb
      exact absurd h3 (hn h h1)
  · have o : dh_on a_hookAt h a := ⟨hh, z2, e⟩
    obtain ⟨k1, k2⟩ := R.2.2.2.1 h a o
    obtain ⟨n1, s1, s2, s3⟩ := dh_R_slot R o
    have g := (dh_hd_Gd R.1 s1 s2).1.1
    refine Exists.intro (dh_hd p a + 1) (dx_unhook_l (n := dh_hd p a) hh (by omega) n1 (fun C' c1 c2 => br_f z (br_t hle ⟨hin, ?_⟩)) (dh_hd p a) 0 _ (by omega) (fun y h1 h2 => absurd h2 (by omega)) (fun y hy => rfl))
    rw [ec]
    exact br_f k1 ⟨hin, nm_e ⟨hin, k2.symm, dh_mk (dh_R_del R o c1 c2)⟩⟩
end
section
/-! writing the second area and the patched head -/
theorem dh_Rl_ext {p : Nat → Nat} {A A' : Nat → Int32} {x i : Nat} (h : ∀ j, i ≤ j → j < i + dh_rl (p x) → A' j = A j) (r : dh_Rl p A x i) : dh_Rl p A' x i := by
  obtain ⟨r4, r5, r6, r8, r0, r1⟩ := r
  have hb := dh_rl_b (p x)
  refine ⟨fun e => ?_, fun e => ?_, fun e => ?_, fun e => ?_, fun e => ?_, fun e1 e2 => ?_⟩
  · have l : dh_rl (p x) = 3 := by rw [e]; rfl
    unfold dh_Ad at r4 ⊢
    rw [h i (by omega) (by omega), h (i + 1) (by omega) (by omega), h (i + 1 + 1) (by omega) (by omega)]
    exact r4 e
  · have l : dh_rl (p x) = 4 := by rw [e]; rfl
    unfold dh_Ad at r5 ⊢
    rw [h i (by omega) (by omega), h (i + 1) (by omega) (by omega), h (i + 2) (by omega) (by omega), h (i + 2 + 1) (by omega) (by omega)]
    exact r5 e
  · have l : dh_rl (p x) = 3 := by rw [e]; rfl
    unfold dh_Ad at r6 ⊢
    rw [h i (by omega) (by omega), h (i + 1) (by omega) (by omega), h (i + 1 + 1) (by omega) (by omega)]
    exact r6 e
  · have l : dh_rl (p x) = 4 := by rw [e]; rfl
    unfold dh_Ad at r8 ⊢
    rw [h i (by omega) (by omega), h (i + 1) (by omega) (by omega), h (i + 2) (by omega) (by omega), h (i + 2 + 1) (by omega) (by omega)]
    exact r8 e
  · rw [h i (by omega) (by omega)]
    exact r0 e
  · have l : dh_rl (p x) = 2 := by
      have : p x = 1 ∨ p x = 2 ∨ p x = 3 := by omega
      rcases this with e | e | e <;> rw [e] <;> rfl
    rw [h (i + 1) (by omega) (by omega)]
    exact r1 e1 e2
theorem dh_Ad_put {A : Nat → Int32} {w : Nat} {t : Int32} (ht : ∃ y, y < 65536 ∧ t = nI y - 256) : dh_Ad (upd (upd A w ((t + 256) >>> ((8 : Int32) &&& 31))) (w + 1) ((t + 256) &&& 255)) w t := by
  obtain ⟨y, h1, rfl⟩ := ht
  unfold dh_Ad
  rw [pk_un (by omega), pk_us, pk_us, Int32.sub_add_cancel]
  exact dh_adr y h1
theorem dh_Ad_o {A : Nat → Int32} {w j : Nat} {t v : Int32} (h : j < w ∨ w + 1 < j) (a : dh_Ad A w t) : dh_Ad (upd A j v) w t := by
  unfold dh_Ad
  rw [pk_un (by omega), pk_un (by omega)]
  exact a
section
variable {f_length f_writeAt f_stacked f_pc f_done f_end : Int32} {a_plain a_code a_starts a_moved a_area a_hookAt a_headLength a_count a_reg a_stack : Nat → Int32} {p : Nat → Nat} {L w x : Nat} {postS : SX → Prop}
theorem dx_relocate (W : dh_WF L p a_starts) (hP : ∀ x, a_plain x = nI (p x)) (hx : x < L) (hb : a_starts x ≠ 0) (hw : w + 4 ≤ 64) (h : ∀ A', (∀ j, j < w ∨ w + dh_rl (p x) ≤ j → A' j = a_area j) → dh_Rl p A' x w → postS (f_length, nI (w + dh_rl (p x)), f_stacked, f_pc, f_done, f_end, a_plain, a_code, a_starts, a_moved, A', a_hookAt, a_headLength, a_count, a_reg, a_stack)) : wpX_relocate postS (f_length, nI w, f_stacked, f_pc, f_done, f_end, a_plain, a_code, a_starts, a_moved, a_area, a_hookAt, a_headLength, a_count, a_reg, a_stack) (nI x) := by
  have hL := W.1
  obtain ⟨i1, i2, i3, i4, i5, i6⟩ := W.2.2 x hx hb
  have hl := dh_len_b (p x)
  have hbt := W.2.1 x
  obtain ⟨y, y1, y2⟩ := dh_tg_w W hx hb
  have ht : ∃ y, y < 65536 ∧ dh_tg p x = nI y - 256 := ⟨y, by omega, y2⟩
  have e1 : 2 ≤ dh_len (p x) → vp_in (nI x + 1) 64 ∧ a_plain (nI x + 1).toNatClampNeg = nI (p (x + 1)) := by
    intro h2
    rw [nI_1 x]
    exact ⟨vp_in_nI (by omega) (by decide), by rw [nI_clamp (by omega), hP]⟩
  refine And.intro (vp_in_nI (by omega) (by decide)) (nm_r (e' := nI (p x)) (by rw [nI_clamp (by omega), hP]) (dx_targetOf hP W.2.1 (by omega) ?_))
  have hk : p x = 4 ∨ p x = 5 ∨ p x = 6 ∨ p x = 8 ∨ (p x = 0 ∨ p x = 7) ∨ (1 ≤ p x ∧ p x ≤ 3) := by omega
  rcases hk with e | e | e | e | e | e
  · have l : dh_rl (p x) = 3 := by rw [e]; rfl
    have et : dh_tgt p x = dh_tg p x := by rw [dh_tgt, e, if_pos (by omega)]
    rw [et, e]
    rw [l] at h
    refine br_t rfl (dx_put (by omega) ?_)
    refine dx_putAddress (by omega) (h _ (fun j hj => ?_) ⟨fun _ => ⟨?_, dh_Ad_put ht⟩, by omega, by omega, by omega, by omega, by omega⟩)
    · rw [pk_un (by omega), pk_un (by omega), pk_un (by omega)]
    · rw [pk_un (by omega), pk_un (by omega), pk_us]
  · have l : dh_rl (p x) = 4 := by rw [e]; rfl
    have et : dh_tgt p x = dh_tg p x := by rw [dh_tgt, e, if_pos (by omega)]
    obtain ⟨v1, v2⟩ := e1 (by rw [e]; decide)
    rw [et, e]
    rw [l] at h
    refine br_f (by decide) (br_t rfl (dx_put (by omega) (And.intro v1 ?_)))
    rw [v2]
    refine dx_put (by omega) ?_
    refine dx_putAddress (by omega) (h _ (fun j hj => ?_) ⟨by omega, fun _ => ⟨?_, ?_, dh_Ad_put ht⟩, by omega, by omega, by omega, by omega⟩)
    · rw [pk_un (by omega), pk_un (by omega), pk_un (by omega), pk_un (by omega)]
    · rw [pk_un (by omega), pk_un (by omega), pk_un (by omega), pk_us]
    · rw [pk_un (by omega), pk_un (by omega), pk_us]
  · have l : dh_rl (p x) = 3 := by rw [e]; rfl
    have et : dh_tgt p x = dh_tg p x := by rw [dh_tgt, e, if_pos (by omega)]
    rw [et, e]
    rw [l] at h
    refine br_f (by decide) (br_f (by decide) (br_t rfl (dx_put (by omega) ?_)))
    refine dx_putAddress (by omega) (h _ (fun j hj => ?_) ⟨by omega, by omega, fun _ => ⟨?_, dh_Ad_put ht⟩, by omega, by omega, by omega⟩)
    · rw [pk_un (by omega), pk_un (by omega), pk_un (by omega)]
    · rw [pk_un (by omega), pk_un (by omega), pk_us]
  · have l : dh_rl (p x) = 4 := by rw [e]; rfl
    obtain ⟨v1, v2⟩ := e1 (by rw [e]; decide)
    rw [e]
    rw [l] at h
    have e2 : nI x + 2 = nI (x + 2) := nI_add x 2
    refine br_f (by decide) (br_f (by decide) (br_f (by decide) (br_t rfl (dx_put (by omega) (And.intro v1 ?_)))))
    rw [v2, e2]
    refine dx_put (by omega) ?_
    refine dx_putAddress (by omega) (h _ (fun j hj => ?_) ⟨by omega, by omega, by omega, fun _ => ⟨?_, ?_, dh_Ad_put ⟨x + 2 + 256, by omega, dh_nI_w _⟩⟩, by omega, by omega⟩)
    · rw [pk_un (by omega), pk_un (by omega), pk_un (by omega), pk_un (by omega)]
    · rw [pk_un (by omega), pk_un (by omega), pk_un (by omega), pk_us]
    · rw [pk_un (by omega), pk_un (by omega), pk_us]
  · have l : dh_rl (p x) = 1 := by
      rcases e with e | e <;> rw [e] <;> rfl
    rw [l] at h
    have h' := h (upd a_area w (nI (p x))) (fun j hj => pk_un (by omega)) ⟨by omega, by omega, by omega, by omega, fun _ => pk_us, by omega⟩
    rcases e with e | e
    · rw [e] at h' ⊢
      exact br_f (by decide) (br_f (by decide) (br_f (by decide) (br_f (by decide) (dx_put (by omega) (br_t (by decide) h')))))
    · rw [e] at h' ⊢
      exact br_f (by decide) (br_f (by decide) (br_f (by decide) (br_f (by decide) (dx_put (by omega) (br_f (by decide) (br_t (by decide) h'))))))
  · have h3 : p x = 1 ∨ p x = 2 ∨ p x = 3 := by omega
    have l : dh_rl (p x) = 2 := by
      rcases h3 with e | e | e <;> rw [e] <;> rfl
    rw [l] at h
    obtain ⟨v1, v2⟩ := e1 (by rcases h3 with e | e | e <;> rw [e] <;> decide)
    have h' := h (upd (upd a_area w (nI (p x))) (w + 1) (nI (p (x + 1)))) (fun j hj => by rw [pk_un (by omega), pk_un (by omega)]) ⟨by omega, by omega, by omega, by omega, fun _ => by rw [pk_un (by omega), pk_us], fun _ _ => pk_us⟩
    rcases h3 with e | e | e
    all_goals
      rw [e] at h' ⊢
      refine br_f (by decide) (br_f (by decide) (br_f (by decide) (br_f (by decide) (dx_put (by omega) (br_f (by decide) (br_f (by decide) (And.intro v1 ?_)))))))
      rw [v2]
      exact dx_put (by omega) h'
end
section
variable {f_length f_writeAt f_stacked f_pc f_done f_end : Int32} {a_plain a_code a_starts a_moved a_area a_hookAt a_headLength a_count a_reg a_stack : Nat → Int32} {p : Nat → Nat} {L s a : Nat} {postS : SX → Prop}
theorem dx_disp_l {A0 M0 : Nat → Int32} (W : dh_WF L p a_starts) (hP : ∀ x, a_plain x = nI (p x)) (hs : s < 4) (ha : a + 3 ≤ L) (hb : a_starts a ≠ 0)
    (h : ∀ w A' M', dh_Lay p a_starts M' A' s a → (∀ j, j < 16 * s ∨ 16 * s + 16 ≤ j → A' j = A0 j) → (∀ y, ¬ (a ≤ y ∧ y < a + dh_hd p a) → M' y = M0 y) → postS (nI L, w, f_stacked, f_pc, f_done, f_end, a_plain, a_code, a_starts, M', A', a_hookAt, a_headLength, a_count, a_reg, a_stack)) :
    ∀ d i n (A M : Nat → Int32), i + d = 3 → dh_hd p a = dh_hg p a d n → dh_Gd L p a_starts a n → A (16 * s) = 10 → A (16 * s + 1) = nI s → (∀ y, a ≤ y → y < a + n → a_starts y ≠ 0 → dh_Rl p A y (dh_q p a_starts s a y) ∧ M y = nI (512 + dh_q p a_starts s a y)) → (∀ j, j < 16 * s ∨ 16 * s + 16 ≤ j → A j = A0 j) → (∀ y, ¬ (a ≤ y ∧ y < a + dh_hd p a) → M y = M0 y) → wX_displace_25 postS (nI a) (nI (dh_hd p a)) (d + 1) (nI (a + n)) (nI i) (nI L) (nI (dh_q p a_starts s a (a + n))) f_stacked f_pc f_done f_end a_plain a_code a_starts M A a_hookAt a_headLength a_count a_reg a_stack := by
  have hL := W.1
  obtain ⟨⟨g1, g2, g3, g4⟩, g5⟩ := dh_hd_Gd W ha hb
  have q1 := dh_q_le (h := s) W ha hb (x := a + dh_hd p a) (Nat.le_refl _)
  have fin : ∀ (A M : Nat → Int32), A (16 * s) = 10 → A (16 * s + 1) = nI s → (∀ y, a ≤ y → y < a + dh_hd p a → a_starts y ≠ 0 → dh_Rl p A y (dh_q p a_starts s a y) ∧ M y = nI (512 + dh_q p a_starts s a y)) → (∀ j, j < 16 * s ∨ 16 * s + 16 ≤ j → A j = A0 j) → (∀ y, ¬ (a ≤ y ∧ y < a + dh_hd p a) → M y = M0 y) → wX_displace_82 postS (nI a) (nI (dh_hd p a)) (nI L) (nI (dh_q p a_starts s a (a + dh_hd p a))) f_stacked f_pc f_done f_end a_plain a_code a_starts M A a_hookAt a_headLength a_count a_reg a_stack := by
    intro A M a1 a2 a3 a4 a5
    have q2 := dh_q_ge p a_starts s a (a + dh_hd p a)
    unfold wX_displace_82
    refine dx_put (by omega) ?_
    show wpX_putAddress _ _ (nI a + nI (dh_hd p a))
    rw [nI_add]
    refine dx_putAddress (by omega) (h _ _ _ ⟨?_, ?_, fun y h1 h2 h3 => ⟨?_, (a3 y h1 h2 h3).2⟩, ?_, dh_Ad_put ⟨a + dh_hd p a + 256, by omega, dh_nI_w _⟩⟩ (fun j hj => ?_) a5)
    · rw [pk_un (by omega), pk_un (by omega), pk_un (by omega)]
      exact a1
    · rw [pk_un (by omega), pk_un (by omega), pk_un (by omega)]
      exact a2
    · obtain ⟨k1, k2, k3⟩ := dh_hd_in W ha hb h1 h2 h3
      have q3 := dh_q_s (h := s) W h1 k1 h3
      have q4 : dh_q p a_starts s a (y + dh_len (p y)) ≤ dh_q p a_starts s a (a + dh_hd p a) := by
        have := dh_O_le p a_starts k2
        unfold dh_q
        omega
      refine dh_Rl_ext (fun j j1 j2 => ?_) (a3 y h1 h2 h3).1
      rw [pk_un (by omega), pk_un (by omega), pk_un (by omega)]
    · rw [pk_un (by omega), pk_un (by omega), pk_us]
    · rw [pk_un (by omega), pk_un (by omega), pk_un (by omega)]
      exact a4 j hj
  intro d
  induction d with
  | zero =>
    intro i n A M hi hg G a1 a2 a3 a4 a5
    obtain rfl : i = 3 := by omega
    have e : n = dh_hd p a := hg.symm
    subst e
    exact br_t (by decide) (fin A M a1 a2 a3 a4 a5)
  | succ d ih =>
    intro i n A M hi hg G a1 a2 a3 a4 a5
    have hle := dh_hg_le p a (d + 1) n
    rw [← hg] at hle
    refine br_f (nI_ge (b := 3) (by omega) (by decide)) (pk_le (a + dh_hd p a) (a + n) (fun z => ?_) (fun z => ?_) (nI_add _ _))
    · have e : n = dh_hd p a := by omega
      subst e
      exact fin A M a1 a2 a3 a4 a5
    · have hn : ¬ 3 ≤ n := by
        intro h3
        rw [dh_hg_ge p a _ n h3] at hg
        omega
      have hbn := G.2.1 (by omega)
      have q2 := dh_q_le (h := s) W ha hb (x := a + n) (by omega)
      have q5 := dh_q_ge p a_starts s a (a + n)
      have hl := dh_len_b (p (a + n))
      have hr := dh_rl_b (p (a + n))
      obtain ⟨k1, k2, k3⟩ := dh_hd_in W ha hb (x := a + n) (by omega) (by omega) hbn
      have q3 := dh_q_s (h := s) W (a := a) (x := a + n) (by omega) k1 hbn
      have q6 := dh_q_le (h := s) W ha hb (x := a + n + dh_len (p (a + n))) k2
      have ec : (nI (a + n)).toNatClampNeg = a + n := nI_clamp (by omega)
      have hin : vp_in (nI (a + n)) 64 := vp_in_nI (by omega) (by decide)
      refine ⟨hin, nm_r (e' := upd M (a + n) (nI (512 + dh_q p a_starts s a (a + n)))) ?_ (dx_relocate W hP (by omega) hbn (by omega) (fun A' b1 b2 => ⟨hin, ?_⟩))⟩
      · rw [ec]
        exact congrArg (upd M (a + n)) (nI_add 512 _)
      · rw [ec, hP, ← q3]
        refine dx_lengthOf (W.2.1 _) (nm_r (nI_add _ _) (nm_r (nI_1 i) ?_))
        rw [Nat.add_assoc]
        refine ih (i + 1) (n + dh_len (p (a + n))) A' _ (by omega) (by rw [hg, dh_hg_lt p a d n hn]) (dh_Gd_s W ha G hn) ?_ ?_ ?_ ?_ ?_
        · rw [b1 _ (by omega)]
          exact a1
        · rw [b1 _ (by omega)]
          exact a2
        · intro y h1 h2 h3
          by_cases e : y = a + n
          · subst e
            rw [pk_us]
            exact ⟨b2, rfl⟩
          · rw [pk_un e]
            have h4 : y < a + n := by
              by_cases h4 : y < a + n
              · exact h4
              · exact absurd ((W.2.2 (a + n) k1 hbn).2.2.1 y (by omega) (by omega)) h3
            refine ⟨dh_Rl_ext (fun j j1 j2 => ?_) (a3 y h1 h4 h3).1, (a3 y h1 h4 h3).2⟩
            obtain ⟨m1, m2, m3⟩ := dh_hd_in W ha hb (x := y) h1 (by omega) h3
            have q7 := dh_q_s (h := s) W h1 m1 h3
            have m4 : y + dh_len (p y) ≤ a + n := by
              by_cases m4 : y + dh_len (p y) ≤ a + n
              · exact m4
              · exact absurd ((W.2.2 y m1 h3).2.2.1 (a + n) h4 (by omega)) hbn
            have q8 : dh_q p a_starts s a (y + dh_len (p y)) ≤ dh_q p a_starts s a (a + n) := by
              have := dh_O_le p a_starts m4
              unfold dh_q
              omega
            exact b1 j (by omega)
        · intro j hj
          rw [b1 j (by omega)]
          exact a4 j hj
        · intro y hy
          rw [pk_un (by omega)]
          exact a5 y hy
theorem dx_displace (W : dh_WF L p a_starts) (hP : ∀ x, a_plain x = nI (p x)) (hs : s < 4) (ha : a + 3 ≤ L) (hb : a_starts a ≠ 0)
    (h : ∀ w A' M', dh_Lay p a_starts M' A' s a → (∀ j, j < 16 * s ∨ 16 * s + 16 ≤ j → A' j = a_area j) → (∀ y, ¬ (a ≤ y ∧ y < a + dh_hd p a) → M' y = a_moved y) → postS (nI L, w, f_stacked, f_pc, f_done, f_end, a_plain, a_code, a_starts, M', A', a_hookAt, a_headLength, a_count, a_reg, a_stack)) : wpX_displace postS (nI L, f_writeAt, f_stacked, f_pc, f_done, f_end, a_plain, a_code, a_starts, a_moved, a_area, a_hookAt, a_headLength, a_count, a_reg, a_stack) (nI s) (nI a) (nI (dh_hd p a)) := by
  have hL := W.1
  have e : nI s * 16 = nI (16 * s) := by
    rw [show (16 : Int32) = nI 16 from rfl, pk_mul, Nat.mul_comm]
  unfold wpX_displace
  refine nm_r e ?_
  refine dx_put (by omega) ?_
  refine dx_put (by omega) (Exists.intro 4 ?_)
  have H := dx_disp_l (f_stacked := f_stacked) (f_pc := f_pc) (f_done := f_done) (f_end := f_end) (a_code := a_code) (a_hookAt := a_hookAt) (a_headLength := a_headLength) (a_count := a_count) (a_reg := a_reg) (a_stack := a_stack) (A0 := a_area) (M0 := a_moved) W hP hs ha hb h 3 0 0 (upd (upd a_area (16 * s) 10) (16 * s + 1) (nI s)) a_moved rfl rfl (dh_Gd_0 ha hb) (by rw [pk_un (by omega), pk_us]) pk_us (fun y h1 h2 => absurd h2 (by omega)) (fun j hj => by rw [pk_un (by omega), pk_un (by omega)]) (fun _ _ => rfl)
  rw [Nat.add_zero a, dh_q_a] at H
  exact H
theorem dx_over_l {n : Nat} {C0 : Nat → Int32} (ha : a + n ≤ 64) (hn : 3 ≤ n) (h : ∀ C', (∀ y, y < a + 3 ∨ a + n ≤ y → C' y = C0 y) → postS (f_length, f_writeAt, f_stacked, f_pc, f_done, f_end, a_plain, C', a_starts, a_moved, a_area, a_hookAt, a_headLength, a_count, a_reg, a_stack)) : ∀ d i C, i + d = n → 3 ≤ i → (∀ y, y < a + 3 ∨ a + n ≤ y → C y = C0 y) → wX_overwrite_52 postS (nI a) (nI n) f_length f_writeAt f_stacked f_pc f_done f_end (d + 1) (nI i) a_plain C a_starts a_moved a_area a_hookAt a_headLength a_count a_reg a_stack := by
  intro d
  induction d with
  | zero =>
    intro i C hi h3 c
    obtain rfl : i = n := by omega
    exact br_t (nI_le (Nat.le_refl _) (by omega)) (h C c)
  | succ d ih =>
    intro i C hi h3 c
    have hin2 : vp_in (nI a + nI i) 64 := by
      rw [nI_add]
      exact vp_in_nI (by omega) (by decide)
    have ei : (nI a + nI i).toNatClampNeg = a + i := by
      rw [nI_add]
      exact nI_clamp (by omega)
    refine br_f (nI_ge (by omega) (by omega)) ⟨hin2, nm_r (e' := upd C (a + i) 255) ?_ (nm_r (nI_1 i) (ih (i + 1) _ (by omega) (by omega) ?_))⟩
    · rw [ei]
    · intro y hy
      rw [pk_un (by omega)]
      exact c y hy
theorem dx_overwrite {n : Nat} (hs : s < 4) (ha : a + n ≤ 64) (hn : 3 ≤ n) (h : ∀ C', C' a = 9 → dh_Ad C' (a + 1) (nI (512 + 16 * s)) → (∀ y, ¬ (a ≤ y ∧ y < a + n) → C' y = a_code y) → postS (f_length, f_writeAt, f_stacked, f_pc, f_done, f_end, a_plain, C', a_starts, a_moved, a_area, a_hookAt, a_headLength, a_count, a_reg, a_stack)) : wpX_overwrite postS (f_length, f_writeAt, f_stacked, f_pc, f_done, f_end, a_plain, a_code, a_starts, a_moved, a_area, a_hookAt, a_headLength, a_count, a_reg, a_stack) (nI s) (nI a) (nI n) := by
  have e : 512 + nI s * 16 + 256 = nI (512 + 16 * s + 256) := by
    rw [show (16 : Int32) = nI 16 from rfl, pk_mul, show (512 : Int32) = nI 512 from rfl, nI_add, show (256 : Int32) = nI 256 from rfl, nI_add, Nat.mul_comm]
  have e1 : nI a + 1 = nI (a + 1) := nI_1 a
  have e2 : nI a + 2 = nI (a + 2) := nI_add a 2
  have k0 : (nI a).toNatClampNeg = a := nI_clamp (by omega)
  have k1 : (nI (a + 1)).toNatClampNeg = a + 1 := nI_clamp (by omega)
  have k2 : (nI (a + 2)).toNatClampNeg = a + 2 := nI_clamp (by omega)
  unfold wpX_overwrite
  refine nm_r e ?_
  show vp_in (nI a) 64 ∧ _
  rw [e1, e2, k0, k1, k2]
  refine ⟨vp_in_nI (by omega) (by decide), nm_e ⟨vp_in_nI (by omega) (by decide), nm_e ⟨vp_in_nI (by omega) (by decide), nm_e (Exists.intro (n - 3 + 1) (dx_over_l (n := n) ha hn (fun C' c => h C' ?_ ?_ ?_) (n - 3) 3 _ (by omega) (by omega) (fun _ _ => rfl)))⟩⟩⟩
  · rw [c a (by omega), pk_un (by omega), pk_un (by omega), pk_us]
  · unfold dh_Ad
    rw [c (a + 1) (by omega), c (a + 1 + 1) (by omega), pk_un (by omega), pk_us, pk_us, dh_nI_w (512 + 16 * s)]
    exact dh_adr _ (by omega)
  · intro y hy
    rw [c y (by omega), pk_un (by omega), pk_un (by omega), pk_un (by omega)]
end
end
section
/-! hook -/
theorem dh_cx_all {H : Nat → Int32} : ∀ j, (∀ h, h < j → ¬ H h < 0) → dh_cx H j = j := by
  intro j
  induction j with
  | zero => intro _; rfl
  | succ j ih =>
    intro h
    rw [dh_cx_p (h j (by omega)), ih (fun i hi => h i (by omega))]
section
variable {L : Nat} {p : Nat → Nat} {B P C C' M M' A A' H N K Hy Ky : Nat → Int32}
theorem dh_Lay_ext (W : dh_WF L p B) {h a : Nat} (ha : a + 3 ≤ L) (hb : B a ≠ 0) (hA : ∀ j, 16 * h ≤ j → j < 16 * h + 16 → A' j = A j) (hM : ∀ y, a ≤ y → y < a + dh_hd p a → M' y = M y) (l : dh_Lay p B M A h a) : dh_Lay p B M' A' h a := by
  obtain ⟨l1, l2, l3, l4, l5⟩ := l
  have q1 := dh_q_le (h := h) W ha hb (x := a + dh_hd p a) (Nat.le_refl _)
  have q2 := dh_q_ge p B h a (a + dh_hd p a)
  refine ⟨?_, ?_, fun y h1 h2 h3 => ⟨?_, ?_⟩, ?_, ?_⟩
  · rw [hA _ (by omega) (by omega)]
    exact l1
  · rw [hA _ (by omega) (by omega)]
    exact l2
  · obtain ⟨k1, k2, k3⟩ := dh_hd_in W ha hb h1 h2 h3
    have q3 := dh_q_s (h := h) W h1 k1 h3
    have q4 := dh_q_le (h := h) W ha hb (x := y + dh_len (p y)) k2
    have q5 := dh_q_ge p B h a y
    exact dh_Rl_ext (fun j j1 j2 => hA j (by omega) (by omega)) (l3 y h1 h2 h3).1
  · rw [hM y h1 h2]
    exact (l3 y h1 h2 h3).2
  · rw [hA _ (by omega) (by omega)]
    exact l4
  · unfold dh_Ad
    rw [hA _ (by omega) (by omega), hA _ (by omega) (by omega)]
    exact l5
theorem dh_on_add {s a h b : Nat} (hs : s < 4) (ha : a < 64) : dh_on (upd H s (nI a)) h b ↔ (h = s ∧ b = a) ∨ (h ≠ s ∧ dh_on H h b) := by
  constructor
  · intro ⟨h1, h2, h3⟩
    by_cases z : h = s
    · subst z
      rw [pk_us] at h3
      exact Or.inl ⟨rfl, ((nI_eq (by omega) (by omega)).mp h3).symm⟩
    · rw [pk_un z] at h3
      exact Or.inr ⟨z, h1, h2, h3⟩
  · intro h
    rcases h with ⟨rfl, rfl⟩ | ⟨z, h1, h2, h3⟩
    · exact ⟨hs, ha, pk_us⟩
    · exact ⟨h1, h2, by rw [pk_un z]; exact h3⟩
theorem dh_mt_on (W : dh_WF L p B) (E : dh_E L p B C M A H N) {h a b n : Nat} (o : dh_on H h b) (ha : a + n < 1000) : dh_mt H N a n h ↔ a < b + dh_hd p b ∧ b < a + n := by
  obtain ⟨n1, s1, s2, s3⟩ := dh_E_slot E o
  have g := (dh_hd_Gd W s1 s2).1.1
  have hL := W.1
  unfold dh_mt
  rw [o.2.2, n1, nI_add, nI_leI (by omega) (by omega), nI_leI (by omega) (by omega)]
  constructor
  · intro h
    omega
  · intro h
    exact ⟨nI_pos (by omega), by omega, by omega⟩
theorem dh_R_add (R : dh_R L p B P C M A H N K Hy Ky) {s a : Nat} (hs : s < 4) (es : H s = -1) (ha : a + 3 ≤ L) (hb : B a ≠ 0) (hy : Hy a = 0) (hm : ∀ h, h < 4 → ¬ dh_mt H N a (dh_hd p a) h) (hi : ∀ x, x < L → ¬ dh_am p B a (dh_hd p a) x) (l : dh_Lay p B M' A' s a) (fa : ∀ j, j < 16 * s ∨ 16 * s + 16 ≤ j → A' j = A j) (fm : ∀ y, ¬ (a ≤ y ∧ y < a + dh_hd p a) → M' y = M y) (c1 : C' a = 9) (c2 : dh_Ad C' (a + 1) (nI (512 + 16 * s))) (c3 : ∀ y, ¬ (a ≤ y ∧ y < a + dh_hd p a) → C' y = C y) : dh_R L p B P C' M' A' (upd H s (nI a)) (upd N s (nI (dh_hd p a))) (upd K s 0) (upd Hy a 1) (upd Ky a 0) := by
  obtain ⟨W, hP, E, k⟩ := R
  have hL := W.1
  have ha64 : a < 64 := by omega
  obtain ⟨⟨g1, g2, g3, g4⟩, g5⟩ := dh_hd_Gd W ha hb
  have ns : ∀ b, ¬ dh_on H s b := by
    intro b o
    exact dh_neg1 o.2.1 (es.symm.trans o.2.2)
  have dj : ∀ h b, dh_on H h b → b + dh_hd p b ≤ a ∨ a + dh_hd p a ≤ b := by
    intro h b o
    have h1 := hm h o.1
    rw [dh_mt_on W E o (by omega)] at h1
    omega
  refine ⟨W, hP, ⟨fun h hh => ?_, fun h h' a1 a2 o1 o2 hn => ?_, fun x hx hn => ?_⟩, fun h a1 o1 => ?_, fun b hb1 hb2 => ?_, ?_⟩
  · by_cases z : h = s
    · subst z
      exact Or.inr ⟨a, (dh_on_add hs ha64).mpr (Or.inl ⟨rfl, rfl⟩), pk_us, ha, hb, ⟨c1, c2⟩, hi, l⟩
    · rcases E.1 h hh with e | ⟨a1, o1, n1, t1, t2, ⟨t3, t4⟩, t5, t6⟩
      · exact Or.inl (by rw [pk_un z]; exact e)
      · have g := (dh_hd_Gd W t1 t2).2
        have d1 := dj h a1 o1
        refine Or.inr ⟨a1, (dh_on_add hs ha64).mpr (Or.inr ⟨z, o1⟩), by rw [pk_un z]; exact n1, t1, t2, ⟨?_, ?_⟩, t5, dh_Lay_ext W t1 t2 (fun j j1 j2 => fa j (by omega)) (fun y y1 y2 => fm y (by omega)) t6⟩
        · rw [c3 a1 (by omega)]
          exact t3
        · unfold dh_Ad
          rw [c3 (a1 + 1) (by omega), c3 (a1 + 1 + 1) (by omega)]
          exact t4
  · rcases (dh_on_add hs ha64).mp o1 with ⟨rfl, rfl⟩ | ⟨z1, p1⟩
    · rcases (dh_on_add hs ha64).mp o2 with ⟨rfl, rfl⟩ | ⟨z2, p2⟩
      · exact absurd rfl hn
      · have := dj h' a2 p2
        omega
    · rcases (dh_on_add hs ha64).mp o2 with ⟨rfl, rfl⟩ | ⟨z2, p2⟩
      · have := dj h a1 p1
        omega
      · exact E.2.1 h h' a1 a2 p1 p2 hn
  · rw [c3 x (hn s a ((dh_on_add hs ha64).mpr (Or.inl ⟨rfl, rfl⟩)))]
    refine E.2.2 x hx (fun h a1 o1 => hn h a1 ((dh_on_add hs ha64).mpr (Or.inr ⟨?_, o1⟩)))
    intro e
    subst e
    exact ns a1 o1
  · rcases (dh_on_add hs ha64).mp o1 with ⟨rfl, rfl⟩ | ⟨z1, p1⟩
    · exact ⟨by rw [pk_us]; decide, by rw [pk_us, pk_us]⟩
    · obtain ⟨k1, k2⟩ := k.1 h a1 p1
      have : a1 ≠ a := by
        intro e
        subst e
        exact k1 hy
      rw [pk_un this, pk_un z1, pk_un this]
      exact ⟨k1, k2⟩
  · by_cases e : b = a
    · subst e
      exact ⟨s, (dh_on_add hs ha64).mpr (Or.inl ⟨rfl, rfl⟩)⟩
    · rw [pk_un e] at hb2
      obtain ⟨h, o1⟩ := k.2.1 b hb1 hb2
      refine ⟨h, (dh_on_add hs ha64).mpr (Or.inr ⟨?_, o1⟩)⟩
      intro e1
      subst e1
      exact ns b o1
  · have h1 := dh_cy_add (v := 1) hy (by decide) 64 ha64
    have h2 := dh_cx_add (v := nI a) (H := H) (a := s) (by rw [es]; decide) (nI_pos (by omega)) 4 hs
    have h3 := k.2.2
    omega
theorem dh_mt_ov (R : dh_R L p B P C M A H N K Hy Ky) {a n : Nat} (ha : a + n < 1000) : (∃ h, h < 4 ∧ dh_mt H N a n h) ↔ ∃ b, b < 64 ∧ dh_ov p Hy a n b := by
  obtain ⟨W, hP, E, k⟩ := R
  constructor
  · intro ⟨h, hh, m⟩
    rcases E.1 h hh with e | ⟨b, o, _⟩
    · have := m.1
      rw [e] at this
      exact absurd (by decide) this
    · obtain ⟨m1, m2⟩ := (dh_mt_on W E o ha).mp m
      exact ⟨b, o.2.1, (k.1 h b o).1, m1, m2⟩
  · intro ⟨b, hb, v1, v2, v3⟩
    obtain ⟨h, o⟩ := k.2.1 b hb v1
    exact ⟨h, o.1, (dh_mt_on W E o ha).mpr ⟨v2, v3⟩⟩
end
section
variable {g_length g_held g_at g_ending g_executed : Int32} {b_code b_begins b_registers b_hooked b_count b_returns : Nat → Int32} {p : Nat → Nat} {L a : Nat} {post : Int32 → SY → Prop}
theorem dy_hook (W : dh_WF L p b_begins) (hP : ∀ x, b_code x = nI (p x)) (ha : a < 64) (hc : dh_cy b_hooked 64 < 100) (hH : ∀ b, b < 64 → b_hooked b ≠ 0 → b + 3 ≤ L ∧ b_begins b ≠ 0)
    (h3 : b_hooked a ≠ 0 → post (-3) (nI L, g_held, g_at, g_ending, g_executed, b_code, b_begins, b_registers, b_hooked, b_count, b_returns)) (h2 : b_hooked a = 0 → dh_cy b_hooked 64 = 4 → post (-2) (nI L, g_held, g_at, g_ending, g_executed, b_code, b_begins, b_registers, b_hooked, b_count, b_returns))
    (h4 : b_hooked a = 0 → dh_cy b_hooked 64 ≠ 4 → (¬ (a + 3 ≤ L ∧ b_begins a ≠ 0) ∨ (∃ b, b < 64 ∧ dh_ov p b_hooked a (dh_hd p a) b) ∨ ∃ x, x < L ∧ dh_am p b_begins a (dh_hd p a) x) → post (-4) (nI L, g_held, g_at, g_ending, g_executed, b_code, b_begins, b_registers, b_hooked, b_count, b_returns))
    (h0 : b_hooked a = 0 → dh_cy b_hooked 64 ≠ 4 → a + 3 ≤ L → b_begins a ≠ 0 → (∀ b, b < 64 → ¬ dh_ov p b_hooked a (dh_hd p a) b) → (∀ x, x < L → ¬ dh_am p b_begins a (dh_hd p a) x) → post (nI (dh_hd p a)) (nI L, g_held, g_at, g_ending, g_executed, b_code, b_begins, b_registers, upd b_hooked a 1, upd b_count a 0, b_returns)) : wpY_hook post (nI L, g_held, g_at, g_ending, g_executed, b_code, b_begins, b_registers, b_hooked, b_count, b_returns) (nI a) := by
  have hL := W.1
  have hin : vp_in (nI a) 64 := vp_in_nI ha (by decide)
  have ec : (nI a).toNatClampNeg = a := nI_clamp (by omega)
  refine br_f (nI_pos (by omega)) (br_t (nI_le (b := 63) (by omega) (by decide)) ⟨hin, ?_⟩)
  rw [ec]
  refine br_c (fun z => ?_) (fun z => h3 z)
  refine dy_hooks (pk_eq (dh_cy b_hooked 64) 4 (fun e => h2 z e) (fun e => ?_))
  refine dy_headOf W (fun k1 k2 => ?_) (fun hn => br_t rfl (h4 z e (Or.inl hn))) ha
  have g := dh_hd_Gd W k1 k2
  have g3 := g.1.2.2.1
  have g5 := g.2
  refine br_f (nI_ne0 (by omega) (by omega)) (dy_overlaps W ha (by omega) hH (fun no => br_t rfl ?_) (fun b b1 b2 => br_f (by decide) (h4 z e (Or.inr (Or.inl ⟨b, b1, b2⟩)))))
  exact dy_entered W hP ha (fun no2 => br_t rfl ⟨hin, nm_e ⟨hin, nm_e (h0 z e k1 k2 no no2)⟩⟩) (fun x x1 x2 => br_f (by decide) (h4 z e (Or.inr (Or.inr ⟨x, x1, x2⟩))))
end
section
variable {f_length f_writeAt f_stacked f_pc f_done f_end : Int32} {a_plain a_code a_starts a_moved a_area a_hookAt a_headLength a_count a_reg a_stack : Nat → Int32} {p : Nat → Nat} {L a : Nat} {post : Int32 → SX → Prop}
theorem dx_hook (W : dh_WF L p a_starts) (hP : ∀ x, a_plain x = nI (p x)) (ha : a < 64)
    (h3 : ∀ h, h < 4 → a_hookAt h = nI a → post (-3) (nI L, f_writeAt, f_stacked, f_pc, f_done, f_end, a_plain, a_code, a_starts, a_moved, a_area, a_hookAt, a_headLength, a_count, a_reg, a_stack)) (h2 : (∀ h, h < 4 → a_hookAt h ≠ nI a) → (∀ h, h < 4 → a_hookAt h ≠ -1) → post (-2) (nI L, f_writeAt, f_stacked, f_pc, f_done, f_end, a_plain, a_code, a_starts, a_moved, a_area, a_hookAt, a_headLength, a_count, a_reg, a_stack))
    (h4 : (∀ h, h < 4 → a_hookAt h ≠ nI a) → ∀ s, s < 4 → a_hookAt s = -1 → (¬ (a + 3 ≤ L ∧ a_starts a ≠ 0) ∨ (∃ h, h < 4 ∧ dh_mt a_hookAt a_headLength a (dh_hd p a) h) ∨ ∃ x, x < L ∧ dh_am p a_starts a (dh_hd p a) x) → post (-4) (nI L, f_writeAt, f_stacked, f_pc, f_done, f_end, a_plain, a_code, a_starts, a_moved, a_area, a_hookAt, a_headLength, a_count, a_reg, a_stack))
    (h0 : (∀ h, h < 4 → a_hookAt h ≠ nI a) → ∀ s, s < 4 → a_hookAt s = -1 → a + 3 ≤ L → a_starts a ≠ 0 → (∀ h, h < 4 → ¬ dh_mt a_hookAt a_headLength a (dh_hd p a) h) → (∀ x, x < L → ¬ dh_am p a_starts a (dh_hd p a) x) → ∀ (w : Int32) (A' M' C' : Nat → Int32), dh_Lay p a_starts M' A' s a → (∀ j, j < 16 * s ∨ 16 * s + 16 ≤ j → A' j = a_area j) → (∀ y, ¬ (a ≤ y ∧ y < a + dh_hd p a) → M' y = a_moved y) → C' a = 9 → dh_Ad C' (a + 1) (nI (512 + 16 * s)) → (∀ y, ¬ (a ≤ y ∧ y < a + dh_hd p a) → C' y = a_code y) → post (nI (dh_hd p a)) (nI L, w, f_stacked, f_pc, f_done, f_end, a_plain, C', a_starts, M', A', upd a_hookAt s (nI a), upd a_headLength s (nI (dh_hd p a)), upd a_count s 0, a_reg, a_stack)) : wpX_hook post (nI L, f_writeAt, f_stacked, f_pc, f_done, f_end, a_plain, a_code, a_starts, a_moved, a_area, a_hookAt, a_headLength, a_count, a_reg, a_stack) (nI a) := by
  have hL := W.1
  refine br_f (nI_pos (by omega)) (br_t (nI_lt (b := 64) ha (by decide)) ?_)
  refine dx_slotOf (fun hn => br_t (by decide) ?_) (fun h hh e => br_f (nI_pos (by omega)) (h3 h hh e))
  refine dx_slotOf (fun hn2 => br_f (by decide) (h2 hn hn2)) (fun s hs es => br_t (nI_pos' (by omega)) ?_)
  refine dx_isStart hL (fun k => br_t rfl (h4 hn s hs es (Or.inl ?_))) (fun x hx e k2 => br_f (by decide) ?_)
  · intro k2
    exact k2.2 (k a (by omega) rfl)
  · have := (nI_eq (by omega) (by omega)).mp e
    subst this
    refine pk_le (a + 3) L (fun k1 => ?_) (fun k1 => h4 hn s hs es (Or.inl (by omega))) (nI_add a 3)
    have g := dh_hd_Gd W k1 k2
    have g1 := g.1.1
    have g5 := g.2
    have hin : vp_in (nI s) 4 := vp_in_nI hs (by decide)
    have ec : (nI s).toNatClampNeg = s := nI_clamp (by omega)
    refine dx_headOf hP W.2.1 (by omega) ?_
    refine dx_meets (fun no => ?_) (fun h hh m => ?_)
    · refine dx_aimed W hP (fun no2 => br_t rfl (br_t rfl ⟨hin, ?_⟩)) (fun x x1 x2 => br_t rfl (br_f (by decide) (h4 hn s hs es (Or.inr (Or.inr ⟨x, x1, x2⟩)))))
      rw [ec]
      refine nm_e ⟨hin, nm_e ⟨hin, nm_e ?_⟩⟩
      refine dx_displace W hP hs k1 k2 (fun w A' M' l fa fm => ?_)
      exact dx_overwrite hs (by omega) g5 (fun C' c1 c2 c3 => h0 hn s hs es k1 k2 no no2 w A' M' C' l fa fm c1 c2 c3)
    · exact dx_aimed W hP (fun _ => br_f (by decide) (h4 hn s hs es (Or.inr (Or.inl ⟨h, hh, m⟩)))) (fun _ _ _ => br_f (by decide) (h4 hn s hs es (Or.inr (Or.inl ⟨h, hh, m⟩))))
end
end
section
theorem i_vc_hook {k : Nat} {u : SX} {v : SY} (I : i_Rel k u v) (hk : k + 3 ≤ 1536) (v1 : Int32) : wpX_hook (fun r u' => wpY_hook (fun r' v' => r' = r ∧ i_Rel (k + 3) u' v') v v1) u v1 := by
  refine dh_el (fun u v => wpX_hook (fun r u' => wpY_hook (fun r' v' => r' = r ∧ i_Rel (k + 3) u' v') v v1) u v1) I ?_
  intro L p f_writeAt f_stacked f_pc f_done f_end a_plain a_code a_starts a_moved a_area a_hookAt a_headLength a_count a_reg a_stack g_held g_at b_hooked b_count b_returns R
  have hL := R.1.1
  by_cases z : v1 < 0
  · exact br_t z (br_t z ⟨rfl, dh_mk R⟩)
  obtain ⟨a, ha, rfl⟩ := nI_of z
  by_cases z2 : a < 64
  · have W := R.1
    have hP := R.2.1
    have ec := R.2.2.2.2.2
    have hc := dh_cx_le (H := a_hookAt) 4
    have hH : ∀ b, b < 64 → b_hooked b ≠ 0 → b + 3 ≤ L ∧ a_starts b ≠ 0 := by
      intro b hb h
      obtain ⟨h, o⟩ := R.2.2.2.2.1 b hb h
      obtain ⟨_, s1, s2, _⟩ := dh_R_slot R o
      exact ⟨s1, s2⟩
    have y0 : (∀ h, h < 4 → a_hookAt h ≠ nI a) → b_hooked a = 0 := by
      intro hn
      by_cases y : b_hooked a = 0
      · exact y
      · obtain ⟨h, o⟩ := R.2.2.2.2.1 a z2 y
        exact absurd o.2.2 (hn h o.1)
    have y4 : ∀ s, s < 4 → a_hookAt s = -1 → dh_cy b_hooked 64 ≠ 4 := by
      intro s hs es e
      have := dh_cx_4 4 (ec.symm.trans e) s hs
      rw [es] at this
      exact this (by decide)
    have hov : a + 3 ≤ L → a_starts a ≠ 0 → ((∃ h, h < 4 ∧ dh_mt a_hookAt a_headLength a (dh_hd p a) h) ↔ ∃ b, b < 64 ∧ dh_ov p b_hooked a (dh_hd p a) b) := by
      intro k1 k2
      have g := (dh_hd_Gd W k1 k2).1.1
      exact dh_mt_ov R (by omega)
    refine dx_hook W hP z2 (fun h hh e => ?_) (fun hn hn2 => ?_) (fun hn s hs es hbad => ?_) (fun hn s hs es k1 k2 no no2 w A' M' C' l fa fm c1 c2 c3 => ?_)
    · have y := (R.2.2.2.1 h a ⟨hh, z2, e⟩).1
      exact dy_hook W hP z2 (by omega) hH (fun _ => ⟨rfl, dh_mk R⟩) (fun n => absurd n y) (fun n => absurd n y) (fun n => absurd n y)
    · have y := y0 hn
      have e4 : dh_cy b_hooked 64 = 4 := by
        rw [ec]
        refine dh_cx_all 4 (fun h hh => ?_)
        rcases R.2.2.1.1 h hh with e | ⟨b, o, _⟩
        · exact absurd e (hn2 h hh)
        · rw [o.2.2]
          have := o.2.1
          exact nI_pos (by omega)
      exact dy_hook W hP z2 (by omega) hH (fun n => absurd y n) (fun _ _ => ⟨rfl, dh_mk R⟩) (fun _ n => absurd e4 n) (fun _ n => absurd e4 n)
    · have y := y0 hn
      have n4 := y4 s hs es
      refine dy_hook W hP z2 (by omega) hH (fun n => absurd y n) (fun _ n => absurd n n4) (fun _ _ _ => ⟨rfl, dh_mk R⟩) (fun _ _ k1 k2 no no2 => ?_)
      rcases hbad with b | b | ⟨x, x1, x2⟩
      · exact absurd ⟨k1, k2⟩ b
      · obtain ⟨b, b1, b2⟩ := (hov k1 k2).mp b
        exact absurd b2 (no b b1)
      · exact absurd x2 (no2 x x1)
    · have y := y0 hn
      have n4 := y4 s hs es
      refine dy_hook W hP z2 (by omega) hH (fun n => absurd y n) (fun _ n => absurd n n4) (fun _ _ hbad => ?_) (fun _ _ _ _ _ _ => ⟨rfl, dh_mk (dh_R_add R hs es k1 k2 y no no2 l fa fm c1 c2 c3)⟩)
      rcases hbad with b | b | ⟨x, x1, x2⟩
      · exact absurd ⟨k1, k2⟩ b
      · obtain ⟨h, b1, b2⟩ := (hov k1 k2).mpr b
        exact absurd b2 (no h b1)
      · exact absurd x2 (no2 x x1)
  · exact br_f z (br_f (nI_nlt (b := 64) (by omega) (by omega)) (br_f z (br_f (nI_ge (a := 63) (by omega) (by omega)) ⟨rfl, dh_mk R⟩)))
end
