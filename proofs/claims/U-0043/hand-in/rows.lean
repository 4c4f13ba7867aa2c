section
theorem pk_us {f : Nat → Int32} {k : Nat} {x : Int32} : upd f k x k = x := if_pos rfl
theorem pk_un {f : Nat → Int32} {k j : Nat} {x : Int32} (h : j ≠ k) : upd f k x j = f j := if_neg h
theorem pk_sub {a b : Nat} (h : b ≤ a) : nI a - nI b = nI (a - b) := by
  obtain ⟨c, rfl⟩ : ∃ c, a = c + b := ⟨a - b, by omega⟩
  rw [← nI_add, Int32.add_sub_cancel, Nat.add_sub_cancel]
theorem pk_mul (a b : Nat) : nI a * nI b = nI (a * b) := (Int32.ofNat_mul a b).symm
theorem pk_ix (x : Int32) {n : Nat} (hn : n < 2 ^ 31) : x < 0 ∨ nI n ≤ x ∨ ∃ j : Nat, j < n ∧ x = nI j := by
  by_cases h : x < 0
  · exact Or.inl h
  · obtain ⟨j, hj, rfl⟩ := nI_of h
    by_cases h2 : j < n
    · exact Or.inr (Or.inr ⟨j, h2, rfl⟩)
    · exact Or.inr (Or.inl (nI_le (by omega) hj))
theorem pk_le {x y : Int32} {A B : Prop} (a b : Nat) (f : a ≤ b → A) (g : b < a → B) (hx : x = nI a := by rfl) (hy : y = nI b := by rfl) (ha : a < 2 ^ 31 := by omega) (hb : b < 2 ^ 31 := by omega) : (x ≤ y → A) ∧ (¬ x ≤ y → B) := by
  subst hx hy
  rw [nI_leI ha hb]
  exact ⟨f, fun z => g (by omega)⟩
theorem pk_lt {x y : Int32} {A B : Prop} (a b : Nat) (f : a < b → A) (g : b ≤ a → B) (hx : x = nI a := by rfl) (hy : y = nI b := by rfl) (ha : a < 2 ^ 31 := by omega) (hb : b < 2 ^ 31 := by omega) : (x < y → A) ∧ (¬ x < y → B) := by
  subst hx hy
  rw [nI_ltI ha hb]
  exact ⟨f, fun z => g (by omega)⟩
theorem pk_eq {x y : Int32} {A B : Prop} (a b : Nat) (f : a = b → A) (g : a ≠ b → B) (hx : x = nI a := by rfl) (hy : y = nI b := by rfl) (ha : a < 2 ^ 31 := by omega) (hb : b < 2 ^ 31 := by omega) : (x = y → A) ∧ (¬ x = y → B) := by
  subst hx hy
  rw [nI_eq ha hb]
  exact ⟨f, g⟩
theorem pk_in {x : Int32} (n N : Nat) (h : n < N) (hx : x = nI n := by rfl) (hN : N < 2 ^ 31 := by omega) : vp_in x N := by
  subst hx
  exact vp_in_nI h hN
theorem pk_cl {x : Int32} (n : Nat) (hx : x = nI n := by rfl) (h : n < 2 ^ 31 := by omega) : x.toNatClampNeg = n := by
  subst hx
  exact nI_clamp h
/-! stores -/
theorem fd_uu {f : Nat → Int32} {k : Nat} {x y : Int32} : upd (upd f k x) k y = upd f k y := by
  funext j
  unfold upd
  by_cases h : j = k
  · rw [if_pos h, if_pos h]
  · rw [if_neg h, if_neg h, if_neg h]
theorem fd_ux {f : Nat → Int32} {k : Nat} : upd f k (f k) = f := by
  funext j
  unfold upd
  by_cases h : j = k
  · rw [if_pos h, h]
  · rw [if_neg h]
def fd_fl (f : Nat → Int32) (lo hi : Nat) (x : Int32) : Nat → Int32 := fun j => if lo ≤ j ∧ j < hi then x else f j
theorem fd_fl0 {f : Nat → Int32} {lo : Nat} {x : Int32} : fd_fl f lo lo x = f := by
  funext j
  exact if_neg (by omega)
theorem fd_fli {f : Nat → Int32} {lo hi j : Nat} {x : Int32} (h : lo ≤ j) (h' : j < hi) : fd_fl f lo hi x j = x := if_pos ⟨h, h'⟩
theorem fd_flo {f : Nat → Int32} {lo hi j : Nat} {x : Int32} (h : ¬ (lo ≤ j ∧ j < hi)) : fd_fl f lo hi x j = f j := if_neg h
theorem fd_fls {f : Nat → Int32} {lo i : Nat} {x : Int32} (h : lo ≤ i) : upd (fd_fl f lo i x) i x = fd_fl f lo (i + 1) x := by
  funext j
  unfold upd fd_fl
  by_cases h1 : j = i
  · rw [if_pos h1, if_pos (by omega)]
  · rw [if_neg h1]
    by_cases h2 : lo ≤ j ∧ j < i
    · rw [if_pos h2, if_pos (by omega)]
    · rw [if_neg h2, if_neg (by omega)]
/-- part w (16 cells) after its first i cells have been copied from the third part -/
def fd_cp (f : Nat → Int32) (w i : Nat) : Nat → Int32 := fun j => if 16 * w ≤ j ∧ j < 16 * w + i then f (32 + (j - 16 * w)) else f j
theorem fd_cp0 {f : Nat → Int32} {w : Nat} : fd_cp f w 0 = f := by
  funext j
  exact if_neg (by omega)
theorem fd_cph {f : Nat → Int32} {w i j : Nat} (hw : w < 2) (hi : i ≤ 16) (hj : 32 ≤ j) : fd_cp f w i j = f j := if_neg (by omega)
theorem fd_cps {f : Nat → Int32} {w i : Nat} (hw : w < 2) (hi : i < 16) : upd (fd_cp f w i) (16 * w + i) (fd_cp f w i (32 + i)) = fd_cp f w (i + 1) := by
  funext j
  rw [fd_cph hw (by omega) (by omega)]
  unfold upd fd_cp
  by_cases h1 : j = 16 * w + i
  · rw [if_pos h1, if_pos (by omega), h1, Nat.add_sub_cancel_left]
  · rw [if_neg h1]
    by_cases h2 : 16 * w ≤ j ∧ j < 16 * w + i
    · rw [if_pos h2, if_pos (by omega)]
    · rw [if_neg h2, if_neg (by omega)]
/-! numbers -/
theorem fd_2m (a : Nat) : 2 * nI a = nI (2 * a) := pk_mul 2 a
theorem fd_4m (a : Nat) : 4 * nI a = nI (4 * a) := pk_mul 4 a
theorem fd_4mk (a k : Nat) : 4 * nI a + nI k = nI (4 * a + k) := by rw [fd_4m, nI_add]
theorem fd_s1 {n : Nat} (h : 0 < n) : nI n - 1 = nI (n - 1) := pk_sub (b := 1) h
theorem fd_32 (a : Nat) : 32 + nI a = nI (32 + a) := nI_add 32 a
theorem fd_16a (w i : Nat) : nI w * 16 + nI i = nI (16 * w + i) := by
  rw [show nI w * 16 = nI (w * 16) from pk_mul w 16, nI_add, Nat.mul_comm]
theorem fd_16b (w i : Nat) : 16 * nI w + nI i = nI (16 * w + i) := by
  rw [show 16 * nI w = nI (16 * w) from pk_mul 16 w, nI_add]
theorem fd_128a (w i : Nat) : nI w * 128 + nI i = nI (128 * w + i) := by
  rw [show nI w * 128 = nI (w * 128) from pk_mul w 128, nI_add, Nat.mul_comm]
theorem fd_128b (w i : Nat) : 128 * nI w + nI i = nI (128 * w + i) := by
  rw [show 128 * nI w = nI (128 * w) from pk_mul 128 w, nI_add]
theorem fd_neg {x : Int32} (h : x < 0) {n : Nat} (hn : n < 2 ^ 31) : ¬ nI n ≤ x ∧ x < nI n ∧ ¬ x = nI n ∧ ¬ nI n < x := by
  rw [Int32.lt_iff_toInt_lt, show (0 : Int32).toInt = 0 from by decide] at h
  rw [Int32.le_iff_toInt_le, Int32.lt_iff_toInt_lt, Int32.lt_iff_toInt_lt, nI_toInt hn, ← Int32.toInt_inj, nI_toInt hn]
  omega
theorem fd_big {x : Int32} {m : Nat} (hm : m < 2 ^ 31) (h : nI m ≤ x) {n : Nat} (hn : n < m) : ¬ x < 0 ∧ ¬ x = nI n ∧ ¬ x ≤ nI n ∧ nI n < x ∧ ¬ x < nI n ∧ nI n ≤ x := by
  rw [Int32.le_iff_toInt_le, nI_toInt hm] at h
  rw [Int32.lt_iff_toInt_lt, Int32.le_iff_toInt_le, Int32.lt_iff_toInt_lt, Int32.lt_iff_toInt_lt, Int32.le_iff_toInt_le, nI_toInt (by omega), ← Int32.toInt_inj, nI_toInt (by omega), show (0 : Int32).toInt = 0 from by decide]
  omega
theorem fd_nlt {a b : Int32} : ¬ a < b ↔ b ≤ a := Int32.not_lt
theorem fd_nle {a b : Int32} : ¬ a ≤ b ↔ b < a := Int32.not_le
theorem fd_suc {n m : Nat} (h : m < n) : ∃ k, n = k + 1 ∧ m ≤ k := ⟨n - 1, by omega, by omega⟩
/-! the clamp, in the form of both constructors -/
theorem fd_cl (v : Int32) (lo hi : Nat) (h : lo ≤ hi) (hh : hi < 2 ^ 31) : ∃ J, lo ≤ J ∧ J ≤ hi ∧ ∀ A : Int32 → Prop, A (nI J) → ((nI lo ≤ v → ((v ≤ nI hi → A v) ∧ (¬ v ≤ nI hi → A (nI hi)))) ∧ (¬ nI lo ≤ v → A (nI lo))) := by
  by_cases h1 : nI lo ≤ v
  · by_cases h2 : v ≤ nI hi
    · have h0 : ¬ v < 0 := by
        intro hv
        exact (fd_neg hv (n := lo) (by omega)).1 h1
      obtain ⟨j, hj, rfl⟩ := nI_of h0
      exact ⟨j, (nI_leI (by omega) hj).mp h1, (nI_leI hj hh).mp h2, fun A hA => br_t h1 (br_t h2 hA)⟩
    · exact ⟨hi, h, Nat.le_refl _, fun A hA => br_t h1 (br_f h2 hA)⟩
  · exact ⟨lo, Nat.le_refl _, h, fun A hA => br_f h1 hA⟩
end
section
variable {R C K F L : Nat} {hd cl fk fs fp fi fb st sd pl la nw fl : Int32} {oA aA bA cA kO kA kB kC en sg ss oc ed os ce rg pg re : Nat → Int32}
variable {g1 g2 g3 g4 g5 g6 g7 g8 g9 g10 g11 g12 g13 g14 g15 g16 g17 g18 : Int32} {g19 g20 g21 g22 g23 g24 g25 g26 g27 g28 g29 g30 g31 g32 g33 g34 : Nat → Int32}
/-! X: wipe, clear, begin -/
theorem fd_xw36 {post : SX → Prop} (h : post (nI R, nI C, nI K, nI F, nI (2 * R), nI L, hd, cl, fk, fs, fp, fi, fb, 0, sd, pl, la, nw, oA, aA, bA, cA, kO, kA, kB, kC, en, sg, ss, oc, ed, os, fd_fl ce 0 32 0, rg)) : ∀ (d i n : Nat) (ce' : Nat → Int32), i + d = 32 → d < n → ce' = fd_fl ce 0 i 0 → wX_wipe_36 post (nI R) (nI C) (nI K) (nI F) (nI (2 * R)) (nI L) hd cl fk fs fp fi fb st sd pl la nw n (nI i) oA aA bA cA kO kA kB kC en sg ss oc ed os ce' rg := by
  intro d
  induction d with
  | zero =>
    intro i n ce' hi hn he
    obtain ⟨m, rfl, hm⟩ := fd_suc hn
    obtain rfl : i = 32 := by omega
    subst he
    exact br_t (by decide) h
  | succ d ih =>
    intro i n ce' hi hn he
    obtain ⟨m, rfl, hm⟩ := fd_suc hn
    refine br_f (nI_ge (b := 32) (by omega) (by decide)) ⟨vp_in_nI (by omega) (by decide), fun y ey => ?_⟩
    refine nm_r (nI_1 i) ?_
    exact ih (i + 1) m y (by omega) (by omega) (by rw [ey, he, nI_clamp (by omega)]; exact fd_fls (by omega))
theorem fd_xw2 {post : SX → Prop} (h : post (nI R, nI C, nI K, nI F, nI (2 * R), nI L, hd, cl, fk, fs, fp, fi, fb, 0, sd, pl, la, nw, oA, aA, bA, cA, kO, kA, kB, kC, en, sg, fd_fl ss 0 2 0, fd_fl oc 0 2 0, fd_fl ed 0 2 (-1), os, fd_fl ce 0 32 0, rg)) : ∀ (d i n : Nat) (ss' oc' ed' : Nat → Int32), i + d = 2 → d < n → ss' = fd_fl ss 0 i 0 → oc' = fd_fl oc 0 i 0 → ed' = fd_fl ed 0 i (-1) → wX_wipe_2 post (nI R) (nI C) (nI K) (nI F) (nI (2 * R)) (nI L) hd cl fk fs fp fi fb st sd pl la nw n (nI i) oA aA bA cA kO kA kB kC en sg ss' oc' ed' os ce rg := by
  intro d
  induction d with
  | zero =>
    intro i n ss' oc' ed' hi hn h1 h2 h3
    obtain ⟨m, rfl, hm⟩ := fd_suc hn
    obtain rfl : i = 2 := by omega
    subst h1 h2 h3
    exact br_t (by decide) ⟨33, fd_xw36 h 32 0 33 ce rfl (by decide) fd_fl0.symm⟩
  | succ d ih =>
    intro i n ss' oc' ed' hi hn h1 h2 h3
    obtain ⟨m, rfl, hm⟩ := fd_suc hn
    have hv : vp_in (nI i) 2 := vp_in_nI (by omega) (by decide)
    refine br_f (nI_ge (b := 2) (by omega) (by decide)) ⟨hv, fun s1 e1 => ⟨hv, fun s2 e2 => ⟨hv, fun s3 e3 => ?_⟩⟩⟩
    refine nm_r (nI_1 i) ?_
    rw [nI_clamp (by omega)] at e1 e2 e3
    exact ih (i + 1) m s1 s2 s3 (by omega) (by omega) (by rw [e1, h1]; exact fd_fls (by omega)) (by rw [e2, h2]; exact fd_fls (by omega)) (by rw [e3, h3]; exact fd_fls (by omega))
theorem fd_xwipe {post : SX → Prop} (h : post (nI R, nI C, nI K, nI F, nI (2 * R), nI L, hd, cl, fk, fs, fp, fi, fb, 0, sd, pl, la, nw, oA, aA, bA, cA, kO, kA, kB, kC, en, sg, fd_fl ss 0 2 0, fd_fl oc 0 2 0, fd_fl ed 0 2 (-1), os, fd_fl ce 0 32 0, rg)) : wpX_wipe post (nI R, nI C, nI K, nI F, nI (2 * R), nI L, hd, cl, fk, fs, fp, fi, fb, st, sd, pl, la, nw, oA, aA, bA, cA, kO, kA, kB, kC, en, sg, ss, oc, ed, os, ce, rg) :=
  ⟨3, fd_xw2 h 2 0 3 ss oc ed rfl (by decide) fd_fl0.symm fd_fl0.symm fd_fl0.symm⟩
theorem fd_xc54 {post : Int32 → SX → Prop} (h : post 0 (nI R, nI C, nI K, nI F, nI (2 * R), nI L, hd, cl, 0, 0, 0, 0, 0, 0, sd, pl, la, nw, oA, aA, bA, cA, kO, kA, kB, kC, en, sg, fd_fl ss 0 2 0, fd_fl oc 0 2 0, fd_fl ed 0 2 (-1), os, fd_fl (fd_fl ce 32 48 0) 0 32 0, rg)) : ∀ (d i n : Nat) (ce' : Nat → Int32), i + d = 16 → d < n → ce' = fd_fl ce 32 (32 + i) 0 → wX_clear_54 post (nI R) (nI C) (nI K) (nI F) (nI (2 * R)) (nI L) hd cl fk fs fp fi fb st sd pl la nw n (nI i) oA aA bA cA kO kA kB kC en sg ss oc ed os ce' rg := by
  intro d
  induction d with
  | zero =>
    intro i n ce' hi hn he
    obtain ⟨m, rfl, hm⟩ := fd_suc hn
    obtain rfl : i = 16 := by omega
    subst he
    refine br_t (by decide) ?_
    refine fd_xwipe ?_
    exact h
  | succ d ih =>
    intro i n ce' hi hn he
    obtain ⟨m, rfl, hm⟩ := fd_suc hn
    refine br_f (nI_ge (b := 16) (by omega) (by decide)) ⟨by rw [fd_32]; exact vp_in_nI (by omega) (by decide), fun y ey => ?_⟩
    refine nm_r (nI_1 i) ?_
    exact ih (i + 1) m y (by omega) (by omega) (by rw [ey, he, fd_32, nI_clamp (by omega)]; exact fd_fls (by omega))
theorem fd_xc2 {post : Int32 → SX → Prop} (h : post 0 (nI R, nI C, nI K, nI F, nI (2 * R), 0, 0, cl, 0, 0, 0, 0, 0, 0, sd, pl, la, nw, fd_fl oA 0 25 0, fd_fl aA 0 25 0, fd_fl bA 0 25 0, fd_fl cA 0 25 0, kO, kA, kB, kC, en, sg, fd_fl ss 0 2 0, fd_fl oc 0 2 0, fd_fl ed 0 2 (-1), os, fd_fl (fd_fl ce 32 48 0) 0 32 0, rg)) : ∀ (d i n : Nat) (oA' aA' bA' cA' : Nat → Int32), i + d = 25 → d < n → oA' = fd_fl oA 0 i 0 → aA' = fd_fl aA 0 i 0 → bA' = fd_fl bA 0 i 0 → cA' = fd_fl cA 0 i 0 → wX_clear_2 post (nI R) (nI C) (nI K) (nI F) (nI (2 * R)) (nI L) hd cl fk fs fp fi fb st sd pl la nw n (nI i) oA' aA' bA' cA' kO kA kB kC en sg ss oc ed os ce rg := by
  intro d
  induction d with
  | zero =>
    intro i n oA' aA' bA' cA' hi hn h1 h2 h3 h4
    obtain ⟨m, rfl, hm⟩ := fd_suc hn
    obtain rfl : i = 25 := by omega
    subst h1 h2 h3 h4
    exact br_t (by decide) ⟨17, fd_xc54 (L := 0) h 16 0 17 ce rfl (by decide) fd_fl0.symm⟩
  | succ d ih =>
    intro i n oA' aA' bA' cA' hi hn h1 h2 h3 h4
    obtain ⟨m, rfl, hm⟩ := fd_suc hn
    have hv : vp_in (nI i) 25 := vp_in_nI (by omega) (by decide)
    refine br_f (nI_ge (b := 25) (by omega) (by decide)) ⟨hv, fun s1 e1 => ⟨hv, fun s2 e2 => ⟨hv, fun s3 e3 => ⟨hv, fun s4 e4 => ?_⟩⟩⟩⟩
    refine nm_r (nI_1 i) ?_
    rw [nI_clamp (by omega)] at e1 e2 e3 e4
    exact ih (i + 1) m s1 s2 s3 s4 (by omega) (by omega) (by rw [e1, h1]; exact fd_fls (by omega)) (by rw [e2, h2]; exact fd_fls (by omega)) (by rw [e3, h3]; exact fd_fls (by omega)) (by rw [e4, h4]; exact fd_fls (by omega))
theorem fd_xclear {post : Int32 → SX → Prop} (h : post 0 (nI R, nI C, nI K, nI F, nI (2 * R), 0, 0, cl, 0, 0, 0, 0, 0, 0, sd, pl, la, nw, fd_fl oA 0 25 0, fd_fl aA 0 25 0, fd_fl bA 0 25 0, fd_fl cA 0 25 0, kO, kA, kB, kC, en, sg, fd_fl ss 0 2 0, fd_fl oc 0 2 0, fd_fl ed 0 2 (-1), os, fd_fl (fd_fl ce 32 48 0) 0 32 0, rg)) : wpX_clear post (nI R, nI C, nI K, nI F, nI (2 * R), nI L, hd, cl, fk, fs, fp, fi, fb, st, sd, pl, la, nw, oA, aA, bA, cA, kO, kA, kB, kC, en, sg, ss, oc, ed, os, ce, rg) :=
  ⟨26, fd_xc2 h 25 0 26 oA aA bA cA rfl (by decide) fd_fl0.symm fd_fl0.symm fd_fl0.symm fd_fl0.symm⟩
theorem fd_xb42 {post : SX → Prop} {w : Nat} (hw : w < 2) (h : post (nI R, nI C, nI K, nI F, nI (2 * R), nI L, hd, cl, fk, fs, fp, fi, fb, st, sd, 0, la, nw, oA, aA, bA, cA, kO, kA, kB, kC, en, sg, ss, oc, ed, os, fd_cp ce w 16, rg)) : ∀ (d i n : Nat) (ce' : Nat → Int32), i + d = 16 → d < n → ce' = fd_cp ce w i → wX_begin_42 post (nI w) (nI R) (nI C) (nI K) (nI F) (nI (2 * R)) (nI L) hd cl fk fs fp fi fb st sd pl la nw n (nI i) oA aA bA cA kO kA kB kC en sg ss oc ed os ce' rg := by
  intro d
  induction d with
  | zero =>
    intro i n ce' hi hn he
    obtain ⟨m, rfl, hm⟩ := fd_suc hn
    obtain rfl : i = 16 := by omega
    subst he
    exact br_t (by decide) h
  | succ d ih =>
    intro i n ce' hi hn he
    obtain ⟨m, rfl, hm⟩ := fd_suc hn
    refine br_f (nI_ge (b := 16) (by omega) (by decide)) ⟨by rw [fd_32]; exact vp_in_nI (by omega) (by decide), by rw [fd_16a]; exact vp_in_nI (by omega) (by decide), fun y ey => ?_⟩
    refine nm_r (nI_1 i) ?_
    exact ih (i + 1) m y (by omega) (by omega) (by rw [ey, he, fd_32, fd_16a, nI_clamp (by omega), nI_clamp (by omega)]; exact fd_cps hw (by omega))
theorem fd_xb21 {post : SX → Prop} {w : Nat} (hw : w < 2) (h : post (nI R, nI C, nI K, nI F, nI (2 * R), nI L, hd, cl, fk, fs, fp, fi, fb, st, sd, 0, la, nw, oA, aA, bA, cA, kO, kA, kB, kC, en, sg, ss, oc, ed, os, fd_cp ce w 16, fd_fl rg 0 17 0)) : ∀ (d i n : Nat) (rg' : Nat → Int32), i + d = 17 → d < n → rg' = fd_fl rg 0 i 0 → wX_begin_21 post (nI w) (nI R) (nI C) (nI K) (nI F) (nI (2 * R)) (nI L) hd cl fk fs fp fi fb st sd pl la nw n (nI i) oA aA bA cA kO kA kB kC en sg ss oc ed os ce rg' := by
  intro d
  induction d with
  | zero =>
    intro i n rg' hi hn he
    obtain ⟨m, rfl, hm⟩ := fd_suc hn
    obtain rfl : i = 17 := by omega
    subst he
    exact br_t (by decide) ⟨17, fd_xb42 hw h 16 0 17 ce rfl (by decide) fd_cp0.symm⟩
  | succ d ih =>
    intro i n rg' hi hn he
    obtain ⟨m, rfl, hm⟩ := fd_suc hn
    refine br_f (nI_ge (b := 17) (by omega) (by decide)) ⟨vp_in_nI (by omega) (by decide), fun y ey => ?_⟩
    refine nm_r (nI_1 i) ?_
    exact ih (i + 1) m y (by omega) (by omega) (by rw [ey, he, nI_clamp (by omega)]; exact fd_fls (by omega))
theorem fd_xbegin {post : SX → Prop} {w : Nat} (hw : w < 2) (h : post (nI R, nI C, nI K, nI F, nI (2 * R), nI L, hd, cl, fk, fs, fp, fi, fb, st, nI w, 0, la, nw, oA, aA, bA, cA, kO, kA, kB, kC, en, sg, upd ss w 0, upd oc w 0, ed, os, fd_cp ce w 16, fd_fl rg 0 17 0)) : wpX_begin post (nI R, nI C, nI K, nI F, nI (2 * R), nI L, hd, cl, fk, fs, fp, fi, fb, st, sd, pl, la, nw, oA, aA, bA, cA, kO, kA, kB, kC, en, sg, ss, oc, ed, os, ce, rg) (nI w) := by
  have hv : vp_in (nI w) 2 := vp_in_nI hw (by decide)
  refine ⟨hv, fun s1 e1 => ⟨hv, fun s2 e2 => ?_⟩⟩
  rw [nI_clamp (by omega)] at e1 e2
  subst e1 e2
  exact ⟨18, fd_xb21 hw h 17 0 18 rg rfl (by decide) fd_fl0.symm⟩
/-! Y: wipe, clear, the head of a run -/
theorem fd_yw23 {post : SY → Prop} (h : post (nI R, nI C, nI K, nI F, nI L, 0, fk, fs, fp, fi, fb, hd, fl, pg, ce, os, fd_fl oc 0 2 0, fd_fl ss 0 2 0, fd_fl ed 0 2 (-1), re)) : ∀ (d i n : Nat) (ss' oc' ed' : Nat → Int32), i + d = 2 → d < n → ss' = fd_fl ss 0 i 0 → oc' = fd_fl oc 0 i 0 → ed' = fd_fl ed 0 i (-1) → wY_wipe_23 post (nI R) (nI C) (nI K) (nI F) (nI L) st fk fs fp fi fb hd fl n (nI i) pg ce os oc' ss' ed' re := by
  intro d
  induction d with
  | zero =>
    intro i n ss' oc' ed' hi hn h1 h2 h3
    obtain ⟨m, rfl, hm⟩ := fd_suc hn
    obtain rfl : i = 2 := by omega
    subst h1 h2 h3
    exact br_t (by decide) h
  | succ d ih =>
    intro i n ss' oc' ed' hi hn h1 h2 h3
    obtain ⟨m, rfl, hm⟩ := fd_suc hn
    have hv : vp_in (nI i) 2 := vp_in_nI (by omega) (by decide)
    refine br_f (nI_ge (b := 2) (by omega) (by decide)) ⟨hv, fun s1 e1 => ⟨hv, fun s2 e2 => ⟨hv, fun s3 e3 => ?_⟩⟩⟩
    refine nm_r (nI_1 i) ?_
    rw [nI_clamp (by omega)] at e1 e2 e3
    exact ih (i + 1) m s1 s2 s3 (by omega) (by omega) (by rw [e1, h1]; exact fd_fls (by omega)) (by rw [e2, h2]; exact fd_fls (by omega)) (by rw [e3, h3]; exact fd_fls (by omega))
theorem fd_yw2 {post : SY → Prop} (h : post (nI R, nI C, nI K, nI F, nI L, 0, fk, fs, fp, fi, fb, hd, fl, pg, fd_fl ce 0 32 0, os, fd_fl oc 0 2 0, fd_fl ss 0 2 0, fd_fl ed 0 2 (-1), re)) : ∀ (d i n : Nat) (ce' : Nat → Int32), i + d = 32 → d < n → ce' = fd_fl ce 0 i 0 → wY_wipe_2 post (nI R) (nI C) (nI K) (nI F) (nI L) st fk fs fp fi fb hd fl n (nI i) pg ce' os oc ss ed re := by
  intro d
  induction d with
  | zero =>
    intro i n ce' hi hn he
    obtain ⟨m, rfl, hm⟩ := fd_suc hn
    obtain rfl : i = 32 := by omega
    subst he
    exact br_t (by decide) ⟨3, fd_yw23 h 2 0 3 ss oc ed rfl (by decide) fd_fl0.symm fd_fl0.symm fd_fl0.symm⟩
  | succ d ih =>
    intro i n ce' hi hn he
    obtain ⟨m, rfl, hm⟩ := fd_suc hn
    refine br_f (nI_ge (b := 32) (by omega) (by decide)) ⟨vp_in_nI (by omega) (by decide), fun y ey => ?_⟩
    refine nm_r (nI_1 i) ?_
    exact ih (i + 1) m y (by omega) (by omega) (by rw [ey, he, nI_clamp (by omega)]; exact fd_fls (by omega))
theorem fd_ywipe {post : SY → Prop} (h : post (nI R, nI C, nI K, nI F, nI L, 0, fk, fs, fp, fi, fb, hd, fl, pg, fd_fl ce 0 32 0, os, fd_fl oc 0 2 0, fd_fl ss 0 2 0, fd_fl ed 0 2 (-1), re)) : wpY_wipe post (nI R, nI C, nI K, nI F, nI L, st, fk, fs, fp, fi, fb, hd, fl, pg, ce, os, oc, ss, ed, re) :=
  ⟨33, fd_yw2 h 32 0 33 ce rfl (by decide) fd_fl0.symm⟩
theorem fd_yc13 {post : Int32 → SY → Prop} (h : post 0 (nI R, nI C, nI K, nI F, nI L, 0, 0, 0, 0, 0, 0, hd, fl, pg, fd_fl (fd_fl ce 32 48 0) 0 32 0, os, fd_fl oc 0 2 0, fd_fl ss 0 2 0, fd_fl ed 0 2 (-1), re)) : ∀ (d i n : Nat) (ce' : Nat → Int32), i + d = 48 → 32 ≤ i → d < n → ce' = fd_fl ce 32 i 0 → wY_clear_13 post (nI R) (nI C) (nI K) (nI F) (nI L) st fk fs fp fi fb hd fl n (nI i) pg ce' os oc ss ed re := by
  intro d
  induction d with
  | zero =>
    intro i n ce' hi hi2 hn he
    obtain ⟨m, rfl, hm⟩ := fd_suc hn
    obtain rfl : i = 48 := by omega
    subst he
    refine br_t (by decide) ?_
    refine fd_ywipe ?_
    exact h
  | succ d ih =>
    intro i n ce' hi hi2 hn he
    obtain ⟨m, rfl, hm⟩ := fd_suc hn
    refine br_f (nI_ge (b := 48) (by omega) (by decide)) ⟨vp_in_nI (by omega) (by decide), fun y ey => ?_⟩
    refine nm_r (nI_1 i) ?_
    exact ih (i + 1) m y (by omega) (by omega) (by omega) (by rw [ey, he, nI_clamp (by omega)]; exact fd_fls (by omega))
theorem fd_yclear {post : Int32 → SY → Prop} (h : post 0 (nI R, nI C, nI K, nI F, 0, 0, 0, 0, 0, 0, 0, 0, fl, pg, fd_fl (fd_fl ce 32 48 0) 0 32 0, os, fd_fl oc 0 2 0, fd_fl ss 0 2 0, fd_fl ed 0 2 (-1), re)) : wpY_clear post (nI R, nI C, nI K, nI F, nI L, st, fk, fs, fp, fi, fb, hd, fl, pg, ce, os, oc, ss, ed, re) :=
  ⟨17, fd_yc13 (L := 0) h 16 32 17 ce rfl (by decide) (by decide) fd_fl0.symm⟩
theorem fd_yr31 {post : Int32 → SY → Prop} {w : Nat} {x2 : Int32} (hw : w < 2) (h : ((nI w = 1 → ∃ n99 : Nat, wY_run_99 post (nI w) x2 n99 0 0 0 (nI R) (nI C) (nI K) (nI F) (nI L) 0 fk fs fp fi fb hd 0 pg (fd_cp ce w 16) os (upd oc w 0) ss ed (fd_fl re 0 16 0)) ∧ (¬ nI w = 1 → ∃ n99 : Nat, wY_run_99 post (nI w) x2 n99 0 0 0 (nI R) (nI C) (nI K) (nI F) (nI L) st fk fs fp fi fb hd 0 pg (fd_cp ce w 16) os (upd oc w 0) ss ed (fd_fl re 0 16 0)))) : ∀ (d i n : Nat) (ce' re' : Nat → Int32), i + d = 16 → d < n → ce' = fd_cp ce w i → re' = fd_fl re 0 i 0 → wY_run_31 post (nI w) x2 0 0 (nI R) (nI C) (nI K) (nI F) (nI L) st fk fs fp fi fb hd fl n (nI i) pg ce' os oc ss ed re' := by
  intro d
  induction d with
  | zero =>
    intro i n ce' re' hi hn he he2
    obtain ⟨m, rfl, hm⟩ := fd_suc hn
    obtain rfl : i = 16 := by omega
    subst he he2
    refine br_t (by decide) ⟨vp_in_nI hw (by decide), nm_r (e' := upd oc w 0) (by rw [nI_clamp (by omega)]) ?_⟩
    exact h
  | succ d ih =>
    intro i n ce' re' hi hn he he2
    obtain ⟨m, rfl, hm⟩ := fd_suc hn
    refine br_f (nI_ge (b := 16) (by omega) (by decide)) ⟨vp_in_nI (by omega) (by decide), fun y2 ey2 => ⟨by rw [fd_32]; exact vp_in_nI (by omega) (by decide), by rw [fd_16b]; exact vp_in_nI (by omega) (by decide), fun y ey => ?_⟩⟩
    refine nm_r (nI_1 i) ?_
    exact ih (i + 1) m y y2 (by omega) (by omega) (by rw [ey, he, fd_32, fd_16b, nI_clamp (by omega), nI_clamp (by omega)]; exact fd_cps hw (by omega)) (by rw [ey2, he2, nI_clamp (by omega)]; exact fd_fls (by omega))
/-! the constructors' clamps and 'within' -/
theorem fd_clx {post : Int32 → Prop} {v p1 p2 : Int32} (h : (p1 ≤ v → ((v ≤ p2 → post v) ∧ (¬ v ≤ p2 → post p2))) ∧ (¬ p1 ≤ v → post p1)) : wpX_clamp post (g1, g2, g3, g4, g5, g6, g7, g8, g9, g10, g11, g12, g13, g14, g15, g16, g17, g18, g19, g20, g21, g22, g23, g24, g25, g26, g27, g28, g29, g30, g31, g32, g33, g34) v p1 p2 := h
theorem fd_w1 {post : Int32 → Prop} {j n : Nat} {g : Int32} (hg : g = nI n) (hj : j ≤ n) (hn : n < 2 ^ 31) (h : post 1) : wpX_within post (g1, g2, g3, g4, g5, g6, g7, g8, g9, g10, g11, g12, g13, g14, g15, g16, g17, g18, g19, g20, g21, g22, g23, g24, g25, g26, g27, g28, g29, g30, g31, g32, g33, g34) (nI j) g := by
  subst hg
  exact br_f (nI_pos (by omega)) (br_f (nI_nlt hj hn) h)
theorem fd_w0n {post : Int32 → Prop} {v g : Int32} (hv : v < 0) (h : post 0) : wpX_within post (g1, g2, g3, g4, g5, g6, g7, g8, g9, g10, g11, g12, g13, g14, g15, g16, g17, g18, g19, g20, g21, g22, g23, g24, g25, g26, g27, g28, g29, g30, g31, g32, g33, g34) v g := br_t hv h
theorem fd_w0b {post : Int32 → Prop} {v g : Int32} {n : Nat} (hg : g = nI n) (hn : n + 1 < 2 ^ 31) (hv : nI (n + 1) ≤ v) (h : post 0) : wpX_within post (g1, g2, g3, g4, g5, g6, g7, g8, g9, g10, g11, g12, g13, g14, g15, g16, g17, g18, g19, g20, g21, g22, g23, g24, g25, g26, g27, g28, g29, g30, g31, g32, g33, g34) v g := by
  subst hg
  have z := fd_big hn hv (n := n) (by omega)
  exact br_f z.1 (br_t z.2.2.2.1 h)
theorem fd_ge0 {x : Int32} {n : Nat} (hn : n < 2 ^ 31) (h : nI n ≤ x) : ¬ x < 0 := fun z => (fd_neg z hn).1 h
end
section
/-! the program's rows: fields valid by their op; T bounds the targets -/
def fd_VI (R T : Nat) (o a b c : Int32) : Prop :=
  (o = 0 ∧ a = 0 ∧ b = 0 ∧ c = 0) ∨
  (o = 1 ∧ ∃ x, x < R ∧ a = nI x ∧ c = 0) ∨
  (∃ k, 2 ≤ k ∧ k ≤ 7 ∧ o = nI k ∧ ∃ x y z, x < R ∧ y < R ∧ z < R ∧ a = nI x ∧ b = nI y ∧ c = nI z) ∨
  (o = 8 ∧ ∃ x y, x < R ∧ y < R ∧ a = nI x ∧ b = nI y ∧ c = 0) ∨
  (o = 9 ∧ ∃ x y, x < R ∧ y < R ∧ a = nI x ∧ b = nI y ∧ c = 0) ∨
  (o = 10 ∧ ∃ x, x < R ∧ a = nI x ∧ b = 0 ∧ c = 0) ∨
  (o = 11 ∧ ∃ t, t ≤ T ∧ a = nI t ∧ b = 0 ∧ c = 0) ∨
  (o = 12 ∧ ∃ x t, x < R ∧ t ≤ T ∧ a = nI x ∧ b = nI t ∧ c = 0) ∨
  (o = 13 ∧ ∃ x y t, x < R ∧ y < R ∧ t ≤ T ∧ a = nI x ∧ b = nI y ∧ c = nI t)
/-- the target of a row; 0 if it has none -/
def fd_tg (o a b c : Int32) : Int32 := if o = 11 then a else if o = 12 then b else if o = 13 then c else 0
/-! the guarded code as a list -/
abbrev fd_Q : Type := Int32 × Int32 × Int32 × Int32
def fd_mask (o a b : Int32) : Int32 :=
  if o = 8 then (1 : Int32) <<< (b &&& 31)
  else if o = 9 ∨ o = 13 then ((1 : Int32) <<< (a &&& 31)) ||| ((1 : Int32) <<< (b &&& 31))
  else if o = 10 ∨ o = 12 then (1 : Int32) <<< (a &&& 31) else 0
def fd_ck (m : Int32) : Nat → Nat → List fd_Q
  | 0, _ => []
  | d + 1, r => (if ((m >>> (nI r &&& 31)) &&& 1) = 1 then [(15, nI r, 0, 0)] else []) ++ fd_ck m d (r + 1)
def fd_sig (p : Nat) : Int32 := (nI p + 1) * (-1640531535)
def fd_chk (R p : Nat) (o a b : Int32) : List fd_Q := if o = 0 ∨ ¬ o < 8 then (14, fd_sig p, 0, 0) :: fd_ck (fd_mask o a b) R 0 else []
def fd_shd (R : Nat) (o a b c : Int32) : List fd_Q :=
  if o = 1 then [(1, a + nI R, b, 0)] else if 7 < o then (if o = 8 then [(17, a + nI R, a, 0)] else []) else [(o, a + nI R, b + nI R, c + nI R)]
def fd_brn (R p : Nat) (o a b c : Int32) : List fd_Q :=
  if o = 12 then [(19, a + nI R, fd_sig (p + 1) ^^^ fd_sig (fd_tg o a b c).toNatClampNeg, 0)]
  else if o = 13 then [(20, a + nI R, b + nI R, fd_sig (p + 1) ^^^ fd_sig (fd_tg o a b c).toNatClampNeg)] else []
def fd_tail (R p : Nat) (o a b c : Int32) : List fd_Q :=
  if o = 0 then [(0, 0, 0, 0)]
  else if 10 < o then (18, (if o = 11 then fd_sig p ^^^ fd_sig (fd_tg o a b c).toNatClampNeg else fd_sig p ^^^ fd_sig (p + 1)), 0, 0) :: (fd_brn R p o a b c ++ [(o, a, b, c)])
  else (o, a, b, c) :: (fd_shd R o a b c ++ [(18, fd_sig p ^^^ fd_sig (p + 1), 0, 0)])
def fd_code (R p : Nat) (o a b c : Int32) : List fd_Q :=
  (16, 0, 0, 0) :: (fd_chk R p o a b ++ (16, 1, (if 10 < o then 0 else fd_mask o a b), 0) :: fd_tail R p o a b c)
def fd_all (R : Nat) (oA aA bA cA : Nat → Int32) : Nat → List fd_Q
  | 0 => []
  | p + 1 => fd_all R oA aA bA cA p ++ fd_code R p (oA p) (aA p) (bA p) (cA p)
def fd_Is (l : List fd_Q) (kO kA kB kC : Nat → Int32) : Prop := ∀ j, j < l.length → l[j]? = some (kO j, kA j, kB j, kC j)
/-! the relation -/
def fd_Sz (R C K F L : Nat) : Prop := 2 ≤ R ∧ R ≤ 8 ∧ 1 ≤ C ∧ C ≤ 16 ∧ 4 ≤ K ∧ K ≤ 24 ∧ 16 ≤ F ∧ F ≤ 128 ∧ L ≤ K
def fd_Pg (R K L : Nat) (oA aA bA cA pg : Nat → Int32) : Prop :=
  (∀ p, p < 25 → fd_VI R K (oA p) (aA p) (bA p) (cA p)) ∧
  (∀ p, L ≤ p → p < 25 → oA p = 0 ∧ aA p = 0 ∧ bA p = 0 ∧ cA p = 0) ∧
  (∀ p, p < L → pg (4 * p) = oA p ∧ pg (4 * p + 1) = aA p ∧ pg (4 * p + 2) = bA p ∧ pg (4 * p + 3) = cA p)
def fd_Ft (R L : Nat) (fk fi fb : Int32) : Prop :=
  (fk = 1 → ∃ i b, i ≤ 2 * R ∧ b < 32 ∧ fi = nI i ∧ fb = nI b) ∧ (fk = 2 → ∃ t, t ≤ L ∧ fi = nI t)
def fd_Oc (oc : Nat → Int32) : Prop := ∀ w, w < 2 → ∃ n, n ≤ 128 ∧ oc w = nI n
def fd_Hd (R L : Nat) (oA aA bA cA kO kA kB kC en sg : Nat → Int32) : Prop :=
  0 < L ∧ (∀ p, p < 25 → fd_VI R L (oA p) (aA p) (bA p) (cA p)) ∧ (∀ p, p ≤ L → sg p = fd_sig p) ∧
  fd_Is (fd_all R oA aA bA cA (L + 1)) kO kA kB kC ∧ (∀ p, p ≤ L + 1 → en p = nI (fd_all R oA aA bA cA p).length)
def fd_F (R C K F L : Nat) (hd fk fi fb : Int32) (oA aA bA cA kO kA kB kC en sg oc pg : Nat → Int32) : Prop :=
  fd_Sz R C K F L ∧ fd_Pg R K L oA aA bA cA pg ∧ fd_Ft R L fk fi fb ∧ fd_Oc oc ∧ (hd = 0 ∨ hd = 1 ∧ fd_Hd R L oA aA bA cA kO kA kB kC en sg)
/-- the relation: near equality; what differs is the program's layout, the guarded code and the machines' own registers -/
def i_Rel (_ : Nat) (u : SX) (v : SY) : Prop :=
  ∃ (R C K F L : Nat) (hd cl fk fs fp fi fb st sd pl la nw fl : Int32) (oA aA bA cA kO kA kB kC en sg ss oc ed os ce rg pg re : Nat → Int32),
    u = (nI R, nI C, nI K, nI F, nI (2 * R), nI L, hd, cl, fk, fs, fp, fi, fb, st, sd, pl, la, nw, oA, aA, bA, cA, kO, kA, kB, kC, en, sg, ss, oc, ed, os, ce, rg) ∧ v = (nI R, nI C, nI K, nI F, nI L, st, fk, fs, fp, fi, fb, hd, fl, pg, ce, os, oc, ss, ed, re) ∧ fd_F R C K F L hd fk fi fb oA aA bA cA kO kA kB kC en sg oc pg
theorem i_up {k : Nat} {u : SX} {v : SY} (h : i_Rel k u v) : i_Rel (k + 5) u v := h
variable {R C K F L : Nat} {hd cl fk fs fp fi fb st sd pl la nw fl : Int32} {oA aA bA cA kO kA kB kC en sg ss oc ed os ce rg pg re : Nat → Int32}
theorem fd_in {k : Nat} (h : fd_F R C K F L hd fk fi fb oA aA bA cA kO kA kB kC en sg oc pg) : i_Rel k (nI R, nI C, nI K, nI F, nI (2 * R), nI L, hd, cl, fk, fs, fp, fi, fb, st, sd, pl, la, nw, oA, aA, bA, cA, kO, kA, kB, kC, en, sg, ss, oc, ed, os, ce, rg) (nI R, nI C, nI K, nI F, nI L, st, fk, fs, fp, fi, fb, hd, fl, pg, ce, os, oc, ss, ed, re) :=
  ⟨R, C, K, F, L, hd, cl, fk, fs, fp, fi, fb, st, sd, pl, la, nw, fl, oA, aA, bA, cA, kO, kA, kB, kC, en, sg, ss, oc, ed, os, ce, rg, pg, re, rfl, rfl, h⟩
theorem fd_el {k : Nat} {u : SX} {v : SY} {P : SX → SY → Prop} (H : ∀ {R C K F L : Nat} {hd cl fk fs fp fi fb st sd pl la nw fl : Int32} {oA aA bA cA kO kA kB kC en sg ss oc ed os ce rg pg re : Nat → Int32}, fd_F R C K F L hd fk fi fb oA aA bA cA kO kA kB kC en sg oc pg → P (nI R, nI C, nI K, nI F, nI (2 * R), nI L, hd, cl, fk, fs, fp, fi, fb, st, sd, pl, la, nw, oA, aA, bA, cA, kO, kA, kB, kC, en, sg, ss, oc, ed, os, ce, rg) (nI R, nI C, nI K, nI F, nI L, st, fk, fs, fp, fi, fb, hd, fl, pg, ce, os, oc, ss, ed, re)) (I : i_Rel k u v) : P u v :=
  Exists.elim I fun R I => Exists.elim I fun C I => Exists.elim I fun K I => Exists.elim I fun F I => Exists.elim I fun L I =>
  Exists.elim I fun hd I => Exists.elim I fun cl I => Exists.elim I fun fk I => Exists.elim I fun fs I => Exists.elim I fun fp I => Exists.elim I fun fi I => Exists.elim I fun fb I => Exists.elim I fun st I => Exists.elim I fun sd I => Exists.elim I fun pl I => Exists.elim I fun la I => Exists.elim I fun nw I => Exists.elim I fun fl I =>
  Exists.elim I fun oA I => Exists.elim I fun aA I => Exists.elim I fun bA I => Exists.elim I fun cA I => Exists.elim I fun kO I => Exists.elim I fun kA I => Exists.elim I fun kB I => Exists.elim I fun kC I => Exists.elim I fun en I => Exists.elim I fun sg I => Exists.elim I fun ss I => Exists.elim I fun oc I => Exists.elim I fun ed I => Exists.elim I fun os I => Exists.elim I fun ce I => Exists.elim I fun rg I => Exists.elim I fun pg I => Exists.elim I fun re I => by
    obtain ⟨e1, e2, h⟩ := I
    rw [e1, e2]
    exact H h
end
section
variable {R C K F L : Nat} {hd cl fk fs fp fi fb st sd pl la nw fl : Int32} {oA aA bA cA kO kA kB kC en sg ss oc ed os ce rg pg re : Nat → Int32}
theorem fd_Fwipe (h : fd_F R C K F L hd fk fi fb oA aA bA cA kO kA kB kC en sg oc pg) : fd_F R C K F L hd fk fi fb oA aA bA cA kO kA kB kC en sg (fd_fl oc 0 2 0) pg := by
  obtain ⟨h1, h2, h3, h4, h5⟩ := h
  exact ⟨h1, h2, h3, fun w hw => ⟨0, by omega, fd_fli (by omega) hw⟩, h5⟩
theorem fd_Fclear (h : fd_F R C K F L hd fk fi fb oA aA bA cA kO kA kB kC en sg oc pg) : fd_F R C K F 0 0 0 0 0 (fd_fl oA 0 25 0) (fd_fl aA 0 25 0) (fd_fl bA 0 25 0) (fd_fl cA 0 25 0) kO kA kB kC en sg (fd_fl oc 0 2 0) pg := by
  obtain ⟨⟨h1, h2, h3, h4, h5, h6, h7, h8, h9⟩, _, _, _, _⟩ := h
  have hz : ∀ (f : Nat → Int32) (p : Nat), p < 25 → fd_fl f 0 25 0 p = 0 := fun f p hp => fd_fli (by omega) hp
  refine ⟨⟨h1, h2, h3, h4, h5, h6, h7, h8, Nat.zero_le _⟩, ⟨fun p hp => Or.inl ⟨hz _ p hp, hz _ p hp, hz _ p hp, hz _ p hp⟩, fun p _ hp => ⟨hz _ p hp, hz _ p hp, hz _ p hp, hz _ p hp⟩, fun p hp => absurd hp (by omega)⟩, ⟨fun z => absurd z (by decide), fun z => absurd z (by decide)⟩, fun w hw => ⟨0, by omega, fd_fli (by omega) hw⟩, Or.inl rfl⟩
theorem fd_vdisarm {k : Nat} (h : fd_F R C K F L hd fk fi fb oA aA bA cA kO kA kB kC en sg oc pg) : wpX_disarm (fun r u' => wpY_disarm (fun r' v' => r' = r ∧ i_Rel (k + 5) u' v') (nI R, nI C, nI K, nI F, nI L, st, fk, fs, fp, fi, fb, hd, fl, pg, ce, os, oc, ss, ed, re)) (nI R, nI C, nI K, nI F, nI (2 * R), nI L, hd, cl, fk, fs, fp, fi, fb, st, sd, pl, la, nw, oA, aA, bA, cA, kO, kA, kB, kC, en, sg, ss, oc, ed, os, ce, rg) := by
  obtain ⟨h1, h2, h3, h4, h5⟩ := h
  unfold wpX_disarm wpX_setFault wpY_disarm wpY_arm
  exact ⟨rfl, fd_in ⟨h1, h2, ⟨fun z => absurd z (by decide), fun z => absurd z (by decide)⟩, h4, h5⟩⟩
theorem fd_vclear {k : Nat} (h : fd_F R C K F L hd fk fi fb oA aA bA cA kO kA kB kC en sg oc pg) : wpX_clear (fun r u' => wpY_clear (fun r' v' => r' = r ∧ i_Rel (k + 5) u' v') (nI R, nI C, nI K, nI F, nI L, st, fk, fs, fp, fi, fb, hd, fl, pg, ce, os, oc, ss, ed, re)) (nI R, nI C, nI K, nI F, nI (2 * R), nI L, hd, cl, fk, fs, fp, fi, fb, st, sd, pl, la, nw, oA, aA, bA, cA, kO, kA, kB, kC, en, sg, ss, oc, ed, os, ce, rg) := by
  refine fd_xclear ?_
  refine fd_yclear ?_
  exact ⟨rfl, fd_in (L := 0) (fd_Fclear h)⟩
theorem fd_vpoke {k : Nat} {v1 v2 : Int32} (h : fd_F R C K F L hd fk fi fb oA aA bA cA kO kA kB kC en sg oc pg) : wpX_poke (fun r u' => wpY_poke (fun r' v' => r' = r ∧ i_Rel (k + 5) u' v') (nI R, nI C, nI K, nI F, nI L, st, fk, fs, fp, fi, fb, hd, fl, pg, ce, os, oc, ss, ed, re) v1 v2) (nI R, nI C, nI K, nI F, nI (2 * R), nI L, hd, cl, fk, fs, fp, fi, fb, st, sd, pl, la, nw, oA, aA, bA, cA, kO, kA, kB, kC, en, sg, ss, oc, ed, os, ce, rg) v1 v2 := by
  have hs := h.1
  unfold fd_Sz at hs
  unfold wpX_poke
  have hg : nI C - 1 = nI (C - 1) := fd_s1 (by omega)
  rcases pk_ix v1 (n := C) (by omega) with hv | hv | ⟨j, hj, rfl⟩
  · refine fd_w0n hv (br_t rfl ?_)
    exact br_t hv ⟨rfl, fd_in h⟩
  · refine fd_w0b (n := C - 1) hg (by omega) (by rw [show C - 1 + 1 = C from by omega]; exact hv) (br_t rfl ?_)
    exact br_f (fd_ge0 (by omega) hv) (br_f (fd_nlt.mpr hv) ⟨rfl, fd_in h⟩)
  · have hi : vp_in (32 + nI j) 48 := by rw [fd_32]; exact vp_in_nI (by omega) (by decide)
    refine fd_w1 (n := C - 1) hg (by omega) (by omega) (br_f (by decide) ⟨hi, fun y ey => ?_⟩)
    refine fd_xwipe ?_
    refine br_f (nI_pos (by omega)) (br_t (nI_lt hj (by omega)) ⟨hi, nm_r ey.symm ?_⟩)
    refine fd_ywipe ?_
    exact ⟨rfl, fd_in (fd_Fwipe h)⟩
theorem fd_vstatus {k : Nat} {v1 : Int32} (h : fd_F R C K F L hd fk fi fb oA aA bA cA kO kA kB kC en sg oc pg) : wpX_status (fun r => wpY_status (fun r' => r' = r ∧ i_Rel (k + 5) (nI R, nI C, nI K, nI F, nI (2 * R), nI L, hd, cl, fk, fs, fp, fi, fb, st, sd, pl, la, nw, oA, aA, bA, cA, kO, kA, kB, kC, en, sg, ss, oc, ed, os, ce, rg) (nI R, nI C, nI K, nI F, nI L, st, fk, fs, fp, fi, fb, hd, fl, pg, ce, os, oc, ss, ed, re)) (nI R, nI C, nI K, nI F, nI L, st, fk, fs, fp, fi, fb, hd, fl, pg, ce, os, oc, ss, ed, re) v1) (nI R, nI C, nI K, nI F, nI (2 * R), nI L, hd, cl, fk, fs, fp, fi, fb, st, sd, pl, la, nw, oA, aA, bA, cA, kO, kA, kB, kC, en, sg, ss, oc, ed, os, ce, rg) v1 := by
  have I : i_Rel (k + 5) (nI R, nI C, nI K, nI F, nI (2 * R), nI L, hd, cl, fk, fs, fp, fi, fb, st, sd, pl, la, nw, oA, aA, bA, cA, kO, kA, kB, kC, en, sg, ss, oc, ed, os, ce, rg) (nI R, nI C, nI K, nI F, nI L, st, fk, fs, fp, fi, fb, hd, fl, pg, ce, os, oc, ss, ed, re) := fd_in h
  unfold wpX_status
  rcases pk_ix v1 (n := 2) (by decide) with hv | hv | ⟨j, hj, rfl⟩
  · refine fd_w0n hv (br_t rfl ?_)
    exact br_f (fd_neg hv (n := 0) (by decide)).2.2.1 (br_f (fd_neg hv (n := 1) (by decide)).2.2.1 ⟨rfl, I⟩)
  · refine fd_w0b (n := 1) rfl (by decide) hv (br_t rfl ?_)
    exact br_f (fd_big (by decide) hv (n := 0) (by decide)).2.1 (br_f (fd_big (by decide) hv (n := 1) (by decide)).2.1 ⟨rfl, I⟩)
  · have hi : vp_in (nI j) 2 := vp_in_nI hj (by decide)
    refine fd_w1 (n := 1) rfl (by omega) (by decide) (br_f (by decide) ⟨hi, ?_⟩)
    obtain rfl | rfl : j = 0 ∨ j = 1 := by omega
    · exact br_t rfl ⟨hi, rfl, I⟩
    · exact br_f (by decide) (br_t rfl ⟨hi, rfl, I⟩)
theorem fd_voutCount {k : Nat} {v1 : Int32} (h : fd_F R C K F L hd fk fi fb oA aA bA cA kO kA kB kC en sg oc pg) : wpX_outCount (fun r => wpY_outCount (fun r' => r' = r ∧ i_Rel (k + 5) (nI R, nI C, nI K, nI F, nI (2 * R), nI L, hd, cl, fk, fs, fp, fi, fb, st, sd, pl, la, nw, oA, aA, bA, cA, kO, kA, kB, kC, en, sg, ss, oc, ed, os, ce, rg) (nI R, nI C, nI K, nI F, nI L, st, fk, fs, fp, fi, fb, hd, fl, pg, ce, os, oc, ss, ed, re)) (nI R, nI C, nI K, nI F, nI L, st, fk, fs, fp, fi, fb, hd, fl, pg, ce, os, oc, ss, ed, re) v1) (nI R, nI C, nI K, nI F, nI (2 * R), nI L, hd, cl, fk, fs, fp, fi, fb, st, sd, pl, la, nw, oA, aA, bA, cA, kO, kA, kB, kC, en, sg, ss, oc, ed, os, ce, rg) v1 := by
  have I : i_Rel (k + 5) (nI R, nI C, nI K, nI F, nI (2 * R), nI L, hd, cl, fk, fs, fp, fi, fb, st, sd, pl, la, nw, oA, aA, bA, cA, kO, kA, kB, kC, en, sg, ss, oc, ed, os, ce, rg) (nI R, nI C, nI K, nI F, nI L, st, fk, fs, fp, fi, fb, hd, fl, pg, ce, os, oc, ss, ed, re) := fd_in h
  unfold wpX_outCount
  rcases pk_ix v1 (n := 2) (by decide) with hv | hv | ⟨j, hj, rfl⟩
  · refine fd_w0n hv (br_t rfl ?_)
    exact br_f (fd_neg hv (n := 0) (by decide)).2.2.1 (br_f (fd_neg hv (n := 1) (by decide)).2.2.1 ⟨rfl, I⟩)
  · refine fd_w0b (n := 1) rfl (by decide) hv (br_t rfl ?_)
    exact br_f (fd_big (by decide) hv (n := 0) (by decide)).2.1 (br_f (fd_big (by decide) hv (n := 1) (by decide)).2.1 ⟨rfl, I⟩)
  · have hi : vp_in (nI j) 2 := vp_in_nI hj (by decide)
    refine fd_w1 (n := 1) rfl (by omega) (by decide) (br_f (by decide) ⟨hi, ?_⟩)
    obtain rfl | rfl : j = 0 ∨ j = 1 := by omega
    · exact br_t rfl ⟨hi, rfl, I⟩
    · exact br_f (by decide) (br_t rfl ⟨hi, rfl, I⟩)
theorem fd_vendAt {k : Nat} {v1 : Int32} (h : fd_F R C K F L hd fk fi fb oA aA bA cA kO kA kB kC en sg oc pg) : wpX_endAt (fun r => wpY_endAt (fun r' => r' = r ∧ i_Rel (k + 5) (nI R, nI C, nI K, nI F, nI (2 * R), nI L, hd, cl, fk, fs, fp, fi, fb, st, sd, pl, la, nw, oA, aA, bA, cA, kO, kA, kB, kC, en, sg, ss, oc, ed, os, ce, rg) (nI R, nI C, nI K, nI F, nI L, st, fk, fs, fp, fi, fb, hd, fl, pg, ce, os, oc, ss, ed, re)) (nI R, nI C, nI K, nI F, nI L, st, fk, fs, fp, fi, fb, hd, fl, pg, ce, os, oc, ss, ed, re) v1) (nI R, nI C, nI K, nI F, nI (2 * R), nI L, hd, cl, fk, fs, fp, fi, fb, st, sd, pl, la, nw, oA, aA, bA, cA, kO, kA, kB, kC, en, sg, ss, oc, ed, os, ce, rg) v1 := by
  have I : i_Rel (k + 5) (nI R, nI C, nI K, nI F, nI (2 * R), nI L, hd, cl, fk, fs, fp, fi, fb, st, sd, pl, la, nw, oA, aA, bA, cA, kO, kA, kB, kC, en, sg, ss, oc, ed, os, ce, rg) (nI R, nI C, nI K, nI F, nI L, st, fk, fs, fp, fi, fb, hd, fl, pg, ce, os, oc, ss, ed, re) := fd_in h
  unfold wpX_endAt
  rcases pk_ix v1 (n := 2) (by decide) with hv | hv | ⟨j, hj, rfl⟩
  · refine fd_w0n hv (br_t rfl ?_)
    exact br_f (fd_neg hv (n := 0) (by decide)).2.2.1 (br_f (fd_neg hv (n := 1) (by decide)).2.2.1 ⟨rfl, I⟩)
  · refine fd_w0b (n := 1) rfl (by decide) hv (br_t rfl ?_)
    exact br_f (fd_big (by decide) hv (n := 0) (by decide)).2.1 (br_f (fd_big (by decide) hv (n := 1) (by decide)).2.1 ⟨rfl, I⟩)
  · have hi : vp_in (nI j) 2 := vp_in_nI hj (by decide)
    refine fd_w1 (n := 1) rfl (by omega) (by decide) (br_f (by decide) ⟨hi, ?_⟩)
    obtain rfl | rfl : j = 0 ∨ j = 1 := by omega
    · exact br_t rfl ⟨hi, rfl, I⟩
    · exact br_f (by decide) (br_t rfl ⟨hi, rfl, I⟩)
theorem fd_vout {k : Nat} {v1 v2 : Int32} (h : fd_F R C K F L hd fk fi fb oA aA bA cA kO kA kB kC en sg oc pg) : wpX_out (fun r => wpY_out (fun r' => r' = r ∧ i_Rel (k + 5) (nI R, nI C, nI K, nI F, nI (2 * R), nI L, hd, cl, fk, fs, fp, fi, fb, st, sd, pl, la, nw, oA, aA, bA, cA, kO, kA, kB, kC, en, sg, ss, oc, ed, os, ce, rg) (nI R, nI C, nI K, nI F, nI L, st, fk, fs, fp, fi, fb, hd, fl, pg, ce, os, oc, ss, ed, re)) (nI R, nI C, nI K, nI F, nI L, st, fk, fs, fp, fi, fb, hd, fl, pg, ce, os, oc, ss, ed, re) v1 v2) (nI R, nI C, nI K, nI F, nI (2 * R), nI L, hd, cl, fk, fs, fp, fi, fb, st, sd, pl, la, nw, oA, aA, bA, cA, kO, kA, kB, kC, en, sg, ss, oc, ed, os, ce, rg) v1 v2 := by
  have I : i_Rel (k + 5) (nI R, nI C, nI K, nI F, nI (2 * R), nI L, hd, cl, fk, fs, fp, fi, fb, st, sd, pl, la, nw, oA, aA, bA, cA, kO, kA, kB, kC, en, sg, ss, oc, ed, os, ce, rg) (nI R, nI C, nI K, nI F, nI L, st, fk, fs, fp, fi, fb, hd, fl, pg, ce, os, oc, ss, ed, re) := fd_in h
  have ho := h.2.2.2.1
  unfold wpX_out
  by_cases hq : v2 < 0
  · have z : wpY_out (fun r' => r' = 0 ∧ i_Rel (k + 5) (nI R, nI C, nI K, nI F, nI (2 * R), nI L, hd, cl, fk, fs, fp, fi, fb, st, sd, pl, la, nw, oA, aA, bA, cA, kO, kA, kB, kC, en, sg, ss, oc, ed, os, ce, rg) (nI R, nI C, nI K, nI F, nI L, st, fk, fs, fp, fi, fb, hd, fl, pg, ce, os, oc, ss, ed, re)) (nI R, nI C, nI K, nI F, nI L, st, fk, fs, fp, fi, fb, hd, fl, pg, ce, os, oc, ss, ed, re) v1 v2 := br_t hq ⟨rfl, I⟩
    rcases pk_ix v1 (n := 2) (by decide) with hv | hv | ⟨j, hj, rfl⟩
    · exact fd_w0n hv (br_t rfl z)
    · exact fd_w0b (n := 1) rfl (by decide) hv (br_t rfl z)
    · exact fd_w1 (n := 1) rfl (by omega) (by decide) (br_f (by decide) (br_t hq z))
  · obtain ⟨q, hq2, rfl⟩ := nI_of hq
    rcases pk_ix v1 (n := 2) (by decide) with hv | hv | ⟨j, hj, rfl⟩
    · refine fd_w0n hv (br_t rfl (br_f hq ?_))
      exact br_f (fd_neg hv (n := 0) (by decide)).2.2.1 (br_f (fd_neg hv (n := 1) (by decide)).2.2.1 (br_t (nI_pos' hq2) ⟨rfl, I⟩))
    · refine fd_w0b (n := 1) rfl (by decide) hv (br_t rfl (br_f hq ?_))
      exact br_f (fd_big (by decide) hv (n := 0) (by decide)).2.1 (br_f (fd_big (by decide) hv (n := 1) (by decide)).2.1 (br_t (nI_pos' hq2) ⟨rfl, I⟩))
    · have hi : vp_in (nI j) 2 := vp_in_nI hj (by decide)
      obtain ⟨n, hn, en⟩ := ho j hj
      have hc : oc (nI j).toNatClampNeg = nI n := by rw [nI_clamp (by omega)]; exact en
      refine fd_w1 (n := 1) rfl (by omega) (by decide) (br_f (by decide) (br_f hq ⟨hi, ?_⟩))
      have hY : ∀ post : Int32 → Prop, post (nI n) → wpY_outCount post (nI R, nI C, nI K, nI F, nI L, st, fk, fs, fp, fi, fb, hd, fl, pg, ce, os, oc, ss, ed, re) (nI j) := by
        intro post hp
        obtain rfl | rfl : j = 0 ∨ j = 1 := by omega
        · exact br_t rfl ⟨hi, by rw [hc]; exact hp⟩
        · exact br_f (by decide) (br_t rfl ⟨hi, by rw [hc]; exact hp⟩)
      rw [hc]
      by_cases hqn : q < n
      · have ea : nI j * 128 + nI q = nI (128 * j + q) := fd_128a j q
        have eb : 128 * nI j + nI q = nI (128 * j + q) := fd_128b j q
        have hw : vp_in (nI (128 * j + q)) 256 := vp_in_nI (by omega) (by decide)
        refine br_t (nI_lt hqn (by omega)) ⟨by rw [ea]; exact hw, ?_⟩
        refine br_f hq ?_
        refine hY _ (br_f (nI_ge hqn (by omega)) ⟨by rw [eb]; exact hw, ?_⟩)
        exact ⟨by rw [ea, eb], I⟩
      · refine br_f (nI_nlt (by omega) hq2) (br_f hq ?_)
        exact hY _ (br_t (nI_le (by omega) hq2) ⟨rfl, I⟩)
theorem fd_vcell {k : Nat} {v1 v2 : Int32} (h : fd_F R C K F L hd fk fi fb oA aA bA cA kO kA kB kC en sg oc pg) : wpX_cell (fun r => wpY_cell (fun r' => r' = r ∧ i_Rel (k + 5) (nI R, nI C, nI K, nI F, nI (2 * R), nI L, hd, cl, fk, fs, fp, fi, fb, st, sd, pl, la, nw, oA, aA, bA, cA, kO, kA, kB, kC, en, sg, ss, oc, ed, os, ce, rg) (nI R, nI C, nI K, nI F, nI L, st, fk, fs, fp, fi, fb, hd, fl, pg, ce, os, oc, ss, ed, re)) (nI R, nI C, nI K, nI F, nI L, st, fk, fs, fp, fi, fb, hd, fl, pg, ce, os, oc, ss, ed, re) v1 v2) (nI R, nI C, nI K, nI F, nI (2 * R), nI L, hd, cl, fk, fs, fp, fi, fb, st, sd, pl, la, nw, oA, aA, bA, cA, kO, kA, kB, kC, en, sg, ss, oc, ed, os, ce, rg) v1 v2 := by
  have I : i_Rel (k + 5) (nI R, nI C, nI K, nI F, nI (2 * R), nI L, hd, cl, fk, fs, fp, fi, fb, st, sd, pl, la, nw, oA, aA, bA, cA, kO, kA, kB, kC, en, sg, ss, oc, ed, os, ce, rg) (nI R, nI C, nI K, nI F, nI L, st, fk, fs, fp, fi, fb, hd, fl, pg, ce, os, oc, ss, ed, re) := fd_in h
  have hs := h.1
  unfold fd_Sz at hs
  have hg : nI C - 1 = nI (C - 1) := fd_s1 (by omega)
  unfold wpX_cell
  rcases pk_ix v1 (n := 3) (by decide) with hv | hv | ⟨j, hj, rfl⟩
  · exact fd_w0n hv (br_t rfl (br_t hv ⟨rfl, I⟩))
  · exact fd_w0b (n := 2) rfl (by decide) hv (br_t rfl (br_f (fd_ge0 (by decide) hv) (br_t (fd_big (by decide) hv (n := 2) (by decide)).2.2.2.1 ⟨rfl, I⟩)))
  · have j0 : ¬ nI j < 0 := nI_pos (by omega)
    have j2 : ¬ (2 : Int32) < nI j := nI_nlt (b := j) (a := 2) (by omega) (by decide)
    refine fd_w1 (n := 2) rfl (by omega) (by decide) (br_f (by decide) ?_)
    rcases pk_ix v2 (n := C) (by omega) with hw | hw | ⟨q, hq, rfl⟩
    · exact fd_w0n hw (br_t rfl (br_f j0 (br_f j2 (br_t hw ⟨rfl, I⟩))))
    · exact fd_w0b (n := C - 1) hg (by omega) (by rw [show C - 1 + 1 = C from by omega]; exact hw) (br_t rfl (br_f j0 (br_f j2 (br_f (fd_ge0 (by omega) hw) (br_t hw ⟨rfl, I⟩)))))
    · have ea : nI j * 16 + nI q = nI (16 * j + q) := fd_16a j q
      have eb : 16 * nI j + nI q = nI (16 * j + q) := fd_16b j q
      have hw : vp_in (nI (16 * j + q)) 48 := vp_in_nI (by omega) (by decide)
      refine fd_w1 (n := C - 1) hg (by omega) (by omega) (br_f (by decide) ⟨by rw [ea]; exact hw, ?_⟩)
      refine br_f j0 (br_f j2 (br_f (nI_pos (by omega)) (br_f (nI_ge hq (by omega)) ⟨by rw [eb]; exact hw, ?_⟩)))
      exact ⟨by rw [ea, eb], I⟩
theorem fd_vfield {k : Nat} {v1 v2 : Int32} (h : fd_F R C K F L hd fk fi fb oA aA bA cA kO kA kB kC en sg oc pg) : wpX_field (fun r => wpY_field (fun r' => r' = r ∧ i_Rel (k + 5) (nI R, nI C, nI K, nI F, nI (2 * R), nI L, hd, cl, fk, fs, fp, fi, fb, st, sd, pl, la, nw, oA, aA, bA, cA, kO, kA, kB, kC, en, sg, ss, oc, ed, os, ce, rg) (nI R, nI C, nI K, nI F, nI L, st, fk, fs, fp, fi, fb, hd, fl, pg, ce, os, oc, ss, ed, re)) (nI R, nI C, nI K, nI F, nI L, st, fk, fs, fp, fi, fb, hd, fl, pg, ce, os, oc, ss, ed, re) v1 v2) (nI R, nI C, nI K, nI F, nI (2 * R), nI L, hd, cl, fk, fs, fp, fi, fb, st, sd, pl, la, nw, oA, aA, bA, cA, kO, kA, kB, kC, en, sg, ss, oc, ed, os, ce, rg) v1 v2 := by
  have I : i_Rel (k + 5) (nI R, nI C, nI K, nI F, nI (2 * R), nI L, hd, cl, fk, fs, fp, fi, fb, st, sd, pl, la, nw, oA, aA, bA, cA, kO, kA, kB, kC, en, sg, ss, oc, ed, os, ce, rg) (nI R, nI C, nI K, nI F, nI L, st, fk, fs, fp, fi, fb, hd, fl, pg, ce, os, oc, ss, ed, re) := fd_in h
  have hs := h.1
  unfold fd_Sz at hs
  rcases pk_ix v1 (n := L) (by omega) with hv | hv | ⟨p, hp, rfl⟩
  · exact br_t hv (br_t hv ⟨rfl, I⟩)
  · exact br_f (fd_ge0 (by omega) hv) (br_f (fd_nlt.mpr hv) (br_f (fd_ge0 (by omega) hv) (br_t hv ⟨rfl, I⟩)))
  · have p0 : ¬ nI p < 0 := nI_pos (by omega)
    have pL : nI p < nI L := nI_lt hp (by omega)
    have pG : ¬ nI L ≤ nI p := nI_ge hp (by omega)
    have hi : vp_in (nI p) 25 := vp_in_nI (by omega) (by decide)
    have ec : (nI p).toNatClampNeg = p := nI_clamp (by omega)
    have e4 := h.2.1.2.2 p hp
    refine br_f p0 (br_t pL ?_)
    rcases pk_ix v2 (n := 4) (by decide) with hw | hw | ⟨q, hq, rfl⟩
    · exact br_t hw (br_f p0 (br_f pG (br_t hw ⟨rfl, I⟩)))
    · have z := (fd_big (by decide) hw (n := 3) (by decide))
      exact br_f z.1 (br_t z.2.2.2.1 (br_f p0 (br_f pG (br_f z.1 (br_t z.2.2.2.1 ⟨rfl, I⟩)))))
    · have q0 : ¬ nI q < 0 := nI_pos (by omega)
      have q3 : ¬ (3 : Int32) < nI q := nI_nlt (b := q) (a := 3) (by omega) (by decide)
      have e5 : 4 * nI p + nI q = nI (4 * p + q) := fd_4mk p q
      have hY : ∀ post : Int32 → Prop, post (pg (4 * p + q)) → wpY_field post (nI R, nI C, nI K, nI F, nI L, st, fk, fs, fp, fi, fb, hd, fl, pg, ce, os, oc, ss, ed, re) (nI p) (nI q) := by
        intro post hpost
        refine br_f p0 (br_f pG (br_f q0 (br_f q3 ⟨by rw [e5]; exact vp_in_nI (by omega) (by decide), ?_⟩)))
        rw [e5, nI_clamp (by omega)]
        exact hpost
      refine br_f q0 (br_f q3 ?_)
      obtain rfl | rfl | rfl | rfl : q = 0 ∨ q = 1 ∨ q = 2 ∨ q = 3 := by omega
      · refine br_t rfl ⟨hi, hY _ ⟨?_, I⟩⟩
        rw [ec]; exact e4.1
      · refine br_f (by decide) (br_t rfl ⟨hi, hY _ ⟨?_, I⟩⟩)
        rw [ec]; exact e4.2.1
      · refine br_f (by decide) (br_f (by decide) (br_t rfl ⟨hi, hY _ ⟨?_, I⟩⟩))
        rw [ec]; exact e4.2.2.1
      · refine br_f (by decide) (br_f (by decide) (br_f (by decide) (br_t rfl ⟨hi, hY _ ⟨?_, I⟩⟩)))
        rw [ec]; exact e4.2.2.2
theorem fd_vinfo {k : Nat} {v1 : Int32} (h : fd_F R C K F L hd fk fi fb oA aA bA cA kO kA kB kC en sg oc pg) : wpX_info (fun r => wpY_info (fun r' => r' = r ∧ i_Rel (k + 5) (nI R, nI C, nI K, nI F, nI (2 * R), nI L, hd, cl, fk, fs, fp, fi, fb, st, sd, pl, la, nw, oA, aA, bA, cA, kO, kA, kB, kC, en, sg, ss, oc, ed, os, ce, rg) (nI R, nI C, nI K, nI F, nI L, st, fk, fs, fp, fi, fb, hd, fl, pg, ce, os, oc, ss, ed, re)) (nI R, nI C, nI K, nI F, nI L, st, fk, fs, fp, fi, fb, hd, fl, pg, ce, os, oc, ss, ed, re) v1) (nI R, nI C, nI K, nI F, nI (2 * R), nI L, hd, cl, fk, fs, fp, fi, fb, st, sd, pl, la, nw, oA, aA, bA, cA, kO, kA, kB, kC, en, sg, ss, oc, ed, os, ce, rg) v1 := by
  have I : i_Rel (k + 5) (nI R, nI C, nI K, nI F, nI (2 * R), nI L, hd, cl, fk, fs, fp, fi, fb, st, sd, pl, la, nw, oA, aA, bA, cA, kO, kA, kB, kC, en, sg, ss, oc, ed, os, ce, rg) (nI R, nI C, nI K, nI F, nI L, st, fk, fs, fp, fi, fb, hd, fl, pg, ce, os, oc, ss, ed, re) := fd_in h
  rcases pk_ix v1 (n := 12) (by decide) with hv | hv | ⟨j, hj, rfl⟩
  · have z := fun (n : Nat) (hn : n < 2 ^ 31) => fd_neg hv (n := n) hn
    exact br_t hv (br_f (z 3 (by decide)).2.2.2 (br_f (z 0 (by decide)).2.2.1 (br_f (z 1 (by decide)).2.2.1 (br_f (z 2 (by decide)).2.2.1 (br_f (z 3 (by decide)).2.2.1 ⟨rfl, I⟩)))))
  · have z := fun (n : Nat) (hn : n < 12) => fd_big (by decide) hv (n := n) hn
    exact br_f (z 0 (by decide)).1 (br_t (z 11 (by decide)).2.2.2.1 (br_t (z 3 (by decide)).2.2.2.1 (br_t (z 5 (by decide)).2.2.2.1 (br_t (z 8 (by decide)).2.2.2.1 (br_f (z 9 (by decide)).2.1 (br_f (z 10 (by decide)).2.1 (br_f (z 11 (by decide)).2.1 ⟨rfl, I⟩)))))))
  · obtain rfl | rfl | rfl | rfl | rfl | rfl | rfl | rfl | rfl | rfl | rfl | rfl : j = 0 ∨ j = 1 ∨ j = 2 ∨ j = 3 ∨ j = 4 ∨ j = 5 ∨ j = 6 ∨ j = 7 ∨ j = 8 ∨ j = 9 ∨ j = 10 ∨ j = 11 := by omega
    · exact br_f (by decide) (br_f (by decide) (br_t rfl (br_f (by decide) (br_t rfl (⟨rfl, I⟩)))))
    · exact br_f (by decide) (br_f (by decide) (br_f (by decide) (br_t rfl (br_f (by decide) (br_f (by decide) (br_t rfl (⟨rfl, I⟩)))))))
    · exact br_f (by decide) (br_f (by decide) (br_f (by decide) (br_f (by decide) (br_t rfl (br_f (by decide) (br_f (by decide) (br_f (by decide) (br_t rfl (⟨rfl, I⟩)))))))))
    · exact br_f (by decide) (br_f (by decide) (br_f (by decide) (br_f (by decide) (br_f (by decide) (br_t rfl (br_f (by decide) (br_f (by decide) (br_f (by decide) (br_f (by decide) (br_t rfl (⟨rfl, I⟩)))))))))))
    · exact br_f (by decide) (br_f (by decide) (br_f (by decide) (br_f (by decide) (br_f (by decide) (br_f (by decide) (br_t rfl (br_t (by decide) (br_f (by decide) (br_t rfl (⟨rfl, I⟩))))))))))
    · refine br_f (by decide) (br_f (by decide) (br_f (by decide) (br_f (by decide) (br_f (by decide) (br_f (by decide) (br_f (by decide) (br_t rfl (?_))))))))
      by_cases hh : hd = 0
      · exact br_t hh (br_t (by decide) (br_f (by decide) (br_f (by decide) (br_t hh ⟨rfl, I⟩))))
      · exact br_f hh (br_t (by decide) (br_f (by decide) (br_f (by decide) (br_f hh ⟨rfl, I⟩))))
    · exact br_f (by decide) (br_f (by decide) (br_f (by decide) (br_f (by decide) (br_f (by decide) (br_f (by decide) (br_f (by decide) (br_f (by decide) (br_t rfl (br_t (by decide) (br_t (by decide) (br_f (by decide) (br_t rfl (⟨rfl, I⟩)))))))))))))
    · exact br_f (by decide) (br_f (by decide) (br_f (by decide) (br_f (by decide) (br_f (by decide) (br_f (by decide) (br_f (by decide) (br_f (by decide) (br_f (by decide) (br_t rfl (br_t (by decide) (br_t (by decide) (br_f (by decide) (br_f (by decide) (br_t rfl (⟨rfl, I⟩)))))))))))))))
    · exact br_f (by decide) (br_f (by decide) (br_f (by decide) (br_f (by decide) (br_f (by decide) (br_f (by decide) (br_f (by decide) (br_f (by decide) (br_f (by decide) (br_f (by decide) (br_t rfl (br_t (by decide) (br_t (by decide) (br_f (by decide) (br_f (by decide) (br_f (by decide) (⟨rfl, I⟩))))))))))))))))
    · exact br_f (by decide) (br_f (by decide) (br_f (by decide) (br_f (by decide) (br_f (by decide) (br_f (by decide) (br_f (by decide) (br_f (by decide) (br_f (by decide) (br_f (by decide) (br_f (by decide) (br_t rfl (br_t (by decide) (br_t (by decide) (br_t (by decide) (br_t rfl (⟨rfl, I⟩))))))))))))))))
    · exact br_f (by decide) (br_f (by decide) (br_f (by decide) (br_f (by decide) (br_f (by decide) (br_f (by decide) (br_f (by decide) (br_f (by decide) (br_f (by decide) (br_f (by decide) (br_f (by decide) (br_f (by decide) (br_t rfl (br_t (by decide) (br_t (by decide) (br_t (by decide) (br_f (by decide) (br_t rfl (⟨rfl, I⟩))))))))))))))))))
    · exact br_f (by decide) (br_f (by decide) (br_f (by decide) (br_f (by decide) (br_f (by decide) (br_f (by decide) (br_f (by decide) (br_f (by decide) (br_f (by decide) (br_f (by decide) (br_f (by decide) (br_f (by decide) (br_f (by decide) (br_t rfl (br_t (by decide) (br_t (by decide) (br_t (by decide) (br_f (by decide) (br_f (by decide) (br_t rfl (⟨rfl, I⟩))))))))))))))))))))
theorem fd_varmRedirect {k : Nat} {v1 v2 : Int32} (h : fd_F R C K F L hd fk fi fb oA aA bA cA kO kA kB kC en sg oc pg) : wpX_armRedirect (fun r u' => wpY_armRedirect (fun r' v' => r' = r ∧ i_Rel (k + 5) u' v') (nI R, nI C, nI K, nI F, nI L, st, fk, fs, fp, fi, fb, hd, fl, pg, ce, os, oc, ss, ed, re) v1 v2) (nI R, nI C, nI K, nI F, nI (2 * R), nI L, hd, cl, fk, fs, fp, fi, fb, st, sd, pl, la, nw, oA, aA, bA, cA, kO, kA, kB, kC, en, sg, ss, oc, ed, os, ce, rg) v1 v2 := by
  have hs := h.1
  unfold fd_Sz at hs
  have hg : nI F - 1 = nI (F - 1) := fd_s1 (by omega)
  by_cases hh : hd = 0
  · exact br_t hh (br_t hh ⟨rfl, fd_in h⟩)
  · refine br_f hh ?_
    rcases pk_ix v1 (n := F) (by omega) with hv | hv | ⟨j, hj, rfl⟩
    · refine fd_w0n hv (br_t rfl ?_)
      exact br_f hh (br_t hv ⟨rfl, fd_in h⟩)
    · refine fd_w0b (n := F - 1) hg (by omega) (by rw [show F - 1 + 1 = F from by omega]; exact hv) (br_t rfl ?_)
      exact br_f hh (br_f (fd_ge0 (by omega) hv) (br_t hv ⟨rfl, fd_in h⟩))
    · have j0 : ¬ nI j < 0 := nI_pos (by omega)
      have jF : ¬ nI F ≤ nI j := nI_ge hj (by omega)
      refine fd_w1 (n := F - 1) hg (by omega) (by omega) (br_f (by decide) ?_)
      rcases pk_ix v2 (n := L + 1) (by omega) with hw | hw | ⟨q, hq, rfl⟩
      · refine fd_w0n hw (br_t rfl ?_)
        exact br_f hh (br_f j0 (br_f jF (br_t hw ⟨rfl, fd_in h⟩)))
      · refine fd_w0b (n := L) rfl (by omega) hw (br_t rfl ?_)
        exact br_f hh (br_f j0 (br_f jF (br_f (fd_ge0 (by omega) hw) (br_f (fd_big (by omega) hw (n := L) (by omega)).2.2.1 ⟨rfl, fd_in h⟩))))
      · refine fd_w1 (n := L) rfl (by omega) (by omega) (br_f (by decide) ?_)
        refine br_f hh (br_f j0 (br_f jF (br_f (nI_pos (by omega)) (br_t (nI_le (by omega) (by omega)) ?_))))
        exact ⟨rfl, fd_in ⟨h.1, h.2.1, ⟨fun z => absurd z (by decide), fun _ => ⟨q, by omega, rfl⟩⟩, h.2.2.2⟩⟩
theorem fd_varmFlip {k : Nat} {v1 v2 v3 v4 : Int32} (h : fd_F R C K F L hd fk fi fb oA aA bA cA kO kA kB kC en sg oc pg) : wpX_armFlip (fun r u' => wpY_armFlip (fun r' v' => r' = r ∧ i_Rel (k + 5) u' v') (nI R, nI C, nI K, nI F, nI L, st, fk, fs, fp, fi, fb, hd, fl, pg, ce, os, oc, ss, ed, re) v1 v2 v3 v4) (nI R, nI C, nI K, nI F, nI (2 * R), nI L, hd, cl, fk, fs, fp, fi, fb, st, sd, pl, la, nw, oA, aA, bA, cA, kO, kA, kB, kC, en, sg, ss, oc, ed, os, ce, rg) v1 v2 v3 v4 := by
  have hs := h.1
  unfold fd_Sz at hs
  have hg : nI F - 1 = nI (F - 1) := fd_s1 (by omega)
  by_cases hh : hd = 0
  · exact br_t hh (br_t hh ⟨rfl, fd_in h⟩)
  · refine br_f hh ?_
    rcases pk_ix v1 (n := F) (by omega) with hv | hv | ⟨j, hj, rfl⟩
    · refine fd_w0n hv (br_t rfl ?_)
      exact br_f hh (br_t hv ⟨rfl, fd_in h⟩)
    · refine fd_w0b (n := F - 1) hg (by omega) (by rw [show F - 1 + 1 = F from by omega]; exact hv) (br_t rfl ?_)
      exact br_f hh (br_f (fd_ge0 (by omega) hv) (br_t hv ⟨rfl, fd_in h⟩))
    · have j0 : ¬ nI j < 0 := nI_pos (by omega)
      have jF : ¬ nI F ≤ nI j := nI_ge hj (by omega)
      refine fd_w1 (n := F - 1) hg (by omega) (by omega) (br_f (by decide) ?_)
      rcases pk_ix v2 (n := 2) (by omega) with hw | hw | ⟨q, hq, rfl⟩
      · refine fd_w0n hw (br_t rfl ?_)
        exact br_f hh (br_f j0 (br_f jF (br_t hw ⟨rfl, fd_in h⟩)))
      · refine fd_w0b (n := 1) rfl (by omega) hw (br_t rfl ?_)
        exact br_f hh (br_f j0 (br_f jF (br_f (fd_ge0 (by omega) hw) (br_t (fd_big (by omega) hw (n := 1) (by omega)).2.2.2.1 ⟨rfl, fd_in h⟩))))
      · have q0 : ¬ nI q < 0 := nI_pos (by omega)
        have q1 : ¬ (1 : Int32) < nI q := nI_nlt (b := q) (a := 1) (by omega) (by decide)
        refine fd_w1 (n := 1) rfl (by omega) (by omega) (br_f (by decide) ?_)
        rcases pk_ix v3 (n := 2 * R + 1) (by omega) with hx | hx | ⟨i, hi, rfl⟩
        · refine fd_w0n hx (br_t rfl ?_)
          exact br_f hh (br_f j0 (br_f jF (br_f q0 (br_f q1 (br_t hx ⟨rfl, fd_in h⟩)))))
        · refine fd_w0b (n := 2 * R) rfl (by omega) hx (br_t rfl ?_)
          exact br_f hh (br_f j0 (br_f jF (br_f q0 (br_f q1 (br_f (fd_ge0 (by omega) hx) (br_t (by rw [fd_2m]; exact (fd_big (by omega) hx (n := 2 * R) (by omega)).2.2.2.1) ⟨rfl, fd_in h⟩))))))
        · have i0 : ¬ nI i < 0 := nI_pos (by omega)
          have i1 : ¬ 2 * nI R < nI i := by rw [fd_2m]; exact nI_nlt (by omega) (by omega)
          refine fd_w1 (n := 2 * R) rfl (by omega) (by omega) (br_f (by decide) ?_)
          rcases pk_ix v4 (n := 32) (by omega) with hy | hy | ⟨b, hb, rfl⟩
          · refine fd_w0n hy (br_t rfl ?_)
            exact br_f hh (br_f j0 (br_f jF (br_f q0 (br_f q1 (br_f i0 (br_f i1 (br_t hy ⟨rfl, fd_in h⟩)))))))
          · refine fd_w0b (n := 31) rfl (by omega) hy (br_t rfl ?_)
            exact br_f hh (br_f j0 (br_f jF (br_f q0 (br_f q1 (br_f i0 (br_f i1 (br_f (fd_ge0 (by omega) hy) (br_f (fd_big (by omega) hy (n := 31) (by omega)).2.2.1 ⟨rfl, fd_in h⟩))))))))
          · refine fd_w1 (n := 31) rfl (by omega) (by omega) (br_f (by decide) ?_)
            refine br_f hh (br_f j0 (br_f jF (br_f q0 (br_f q1 (br_f i0 (br_f i1 (br_f (nI_pos (by omega)) (br_t (nI_le (b := 31) (by omega) (by decide)) ?_))))))))
            exact ⟨rfl, fd_in ⟨h.1, h.2.1, ⟨fun _ => ⟨i, b, by omega, hb, rfl, rfl⟩, fun z => absurd z (by decide)⟩, h.2.2.2⟩⟩
end
section
variable {R C K F L : Nat} {hd cl fk fs fp fi fb st sd pl la nw fl : Int32} {oA aA bA cA kO kA kB kC en sg ss oc ed os ce rg pg re : Nat → Int32}
variable {g1 g2 g3 g4 g5 g6 g7 g8 g9 g10 g11 g12 g13 g14 g15 g16 g17 g18 : Int32} {g19 g20 g21 g22 g23 g24 g25 g26 g27 g28 g29 g30 g31 g32 g33 g34 : Nat → Int32}
/-! the constructors -/
theorem fd_clx2 {post : Int32 → Prop} {v : Int32} {lo hi J : Nat} (hJ : ∀ A : Int32 → Prop, A (nI J) → ((nI lo ≤ v → ((v ≤ nI hi → A v) ∧ (¬ v ≤ nI hi → A (nI hi)))) ∧ (¬ nI lo ≤ v → A (nI lo)))) (h : post (nI J)) : wpX_clamp post (g1, g2, g3, g4, g5, g6, g7, g8, g9, g10, g11, g12, g13, g14, g15, g16, g17, g18, g19, g20, g21, g22, g23, g24, g25, g26, g27, g28, g29, g30, g31, g32, g33, g34) v (nI lo) (nI hi) := hJ post h
theorem fd_flz {lo hi : Nat} : fd_fl (fun _ => 0) lo hi 0 = fun _ => 0 := by
  funext j
  unfold fd_fl
  split
  · rfl
  · rfl
theorem fd_yinit {post : SY → Prop} {k0 k1 k2 k3 : Int32} (hR : ∀ A : Int32 → Prop, A (nI R) → ((nI 2 ≤ k0 → ((k0 ≤ nI 8 → A k0) ∧ (¬ k0 ≤ nI 8 → A (nI 8)))) ∧ (¬ nI 2 ≤ k0 → A (nI 2))))
    (hC : ∀ A : Int32 → Prop, A (nI C) → ((nI 1 ≤ k1 → ((k1 ≤ nI 16 → A k1) ∧ (¬ k1 ≤ nI 16 → A (nI 16)))) ∧ (¬ nI 1 ≤ k1 → A (nI 1))))
    (hK : ∀ A : Int32 → Prop, A (nI K) → ((nI 4 ≤ k2 → ((k2 ≤ nI 24 → A k2) ∧ (¬ k2 ≤ nI 24 → A (nI 24)))) ∧ (¬ nI 4 ≤ k2 → A (nI 4))))
    (hF : ∀ A : Int32 → Prop, A (nI F) → ((nI 16 ≤ k3 → ((k3 ≤ nI 128 → A k3) ∧ (¬ k3 ≤ nI 128 → A (nI 128)))) ∧ (¬ nI 16 ≤ k3 → A (nI 16))))
    (h : post (nI R, nI C, nI K, nI F, 0, 0, 0, 0, 0, 0, 0, 0, 0, fun _ => 0, fd_fl (fd_fl (fun _ => 0) 32 48 0) 0 32 0, fun _ => 0, fd_fl (fun _ => 0) 0 2 0, fd_fl (fun _ => 0) 0 2 0, fd_fl (fun _ => 0) 0 2 (-1), fun _ => 0)) : wpY_init post k0 k1 k2 k3 := by
  refine hR (fun z => wY_init_80 post k1 k2 k3 z 0 0 0 0 0 0 0 0 0 0 0 0 0 (fun _ => 0) (fun _ => 0) (fun _ => 0) (fun _ => 0) (fun _ => 0) (fun _ => 0) (fun _ => 0)) ?_
  refine hC (fun z => wY_init_105 post k2 k3 z (nI R) 0 0 0 0 0 0 0 0 0 0 0 0 (fun _ => 0) (fun _ => 0) (fun _ => 0) (fun _ => 0) (fun _ => 0) (fun _ => 0) (fun _ => 0)) ?_
  refine hK (fun z => wY_init_130 post k3 z (nI R) (nI C) 0 0 0 0 0 0 0 0 0 0 0 (fun _ => 0) (fun _ => 0) (fun _ => 0) (fun _ => 0) (fun _ => 0) (fun _ => 0) (fun _ => 0)) ?_
  refine hF (fun z => wY_init_162 post z (nI R) (nI C) (nI K) 0 0 0 0 0 0 0 0 0 0 (fun _ => 0) (fun _ => 0) (fun _ => 0) (fun _ => 0) (fun _ => 0) (fun _ => 0) (fun _ => 0)) ?_
  exact fd_yclear (L := 0) h
theorem fd_v0 (k0 k1 k2 k3 : Int32) : wpX_init (fun u => wpY_init (fun v => i_Rel 4 u v) k0 k1 k2 k3) k0 k1 k2 k3 := by
  obtain ⟨R, hR1, hR2, hR⟩ := fd_cl k0 2 8 (by decide) (by decide)
  obtain ⟨C, hC1, hC2, hC⟩ := fd_cl k1 1 16 (by decide) (by decide)
  obtain ⟨K, hK1, hK2, hK⟩ := fd_cl k2 4 24 (by decide) (by decide)
  obtain ⟨F, hF1, hF2, hF⟩ := fd_cl k3 16 128 (by decide) (by decide)
  unfold wpX_init
  refine fd_clx2 hR ?_
  refine fd_clx2 hC ?_
  refine fd_clx2 hK ?_
  refine fd_clx2 hF ?_
  refine nm_r (fd_2m R) ?_
  refine fd_xwipe (L := 0) ?_
  refine fd_yinit hR hC hK hF ?_
  simp only [fd_flz]
  refine fd_in (L := 0) ?_
  exact ⟨⟨hR1, hR2, hC1, hC2, hK1, hK2, hF1, hF2, Nat.zero_le _⟩, ⟨fun p _ => Or.inl ⟨rfl, rfl, rfl, rfl⟩, fun p _ _ => ⟨rfl, rfl, rfl, rfl⟩, fun p hp => absurd hp (by omega)⟩, ⟨fun z => absurd z (by decide), fun z => absurd z (by decide)⟩, fun w _ => ⟨0, by omega, rfl⟩, Or.inl rfl⟩
/-! emit: the kinds of the fields -/
def fd_kd (k o : Nat) : Int32 :=
  if k = 1 then (if o = 0 then 0 else if o = 11 then 2 else 1)
  else if k = 2 then (if o = 0 ∨ o = 10 ∨ o = 11 then 0 else if o = 1 then 3 else if o = 12 then 2 else 1)
  else (if o = 13 then 2 else if 2 ≤ o ∧ o ≤ 7 then 1 else 0)
def fd_ok (R K : Nat) (k v : Int32) : Prop := (k = 1 → ∃ x, x < R ∧ v = nI x) ∧ (k = 2 → ∃ t, t ≤ K ∧ v = nI t)
theorem fd_14 {o : Nat} (h : o ≤ 13) : o = 0 ∨ o = 1 ∨ o = 2 ∨ o = 3 ∨ o = 4 ∨ o = 5 ∨ o = 6 ∨ o = 7 ∨ o = 8 ∨ o = 9 ∨ o = 10 ∨ o = 11 ∨ o = 12 ∨ o = 13 := by omega
theorem fd_xkA {post : Int32 → Prop} {o : Nat} (ho : o ≤ 13) (h : post (fd_kd 1 o)) : wpX_kindOfA post (g1, g2, g3, g4, g5, g6, g7, g8, g9, g10, g11, g12, g13, g14, g15, g16, g17, g18, g19, g20, g21, g22, g23, g24, g25, g26, g27, g28, g29, g30, g31, g32, g33, g34) (nI o) := by
  obtain rfl | rfl | rfl | rfl | rfl | rfl | rfl | rfl | rfl | rfl | rfl | rfl | rfl | rfl := fd_14 ho
  · exact br_t rfl h
  · exact br_f (by decide) (br_f (by decide) h)
  · exact br_f (by decide) (br_f (by decide) h)
  · exact br_f (by decide) (br_f (by decide) h)
  · exact br_f (by decide) (br_f (by decide) h)
  · exact br_f (by decide) (br_f (by decide) h)
  · exact br_f (by decide) (br_f (by decide) h)
  · exact br_f (by decide) (br_f (by decide) h)
  · exact br_f (by decide) (br_f (by decide) h)
  · exact br_f (by decide) (br_f (by decide) h)
  · exact br_f (by decide) (br_f (by decide) h)
  · exact br_f (by decide) (br_t rfl h)
  · exact br_f (by decide) (br_f (by decide) h)
  · exact br_f (by decide) (br_f (by decide) h)
theorem fd_xkB {post : Int32 → Prop} {o : Nat} (ho : o ≤ 13) (h : post (fd_kd 2 o)) : wpX_kindOfB post (g1, g2, g3, g4, g5, g6, g7, g8, g9, g10, g11, g12, g13, g14, g15, g16, g17, g18, g19, g20, g21, g22, g23, g24, g25, g26, g27, g28, g29, g30, g31, g32, g33, g34) (nI o) := by
  obtain rfl | rfl | rfl | rfl | rfl | rfl | rfl | rfl | rfl | rfl | rfl | rfl | rfl | rfl := fd_14 ho
  · exact br_f (by decide) (br_f (by decide) (br_t rfl h))
  · exact br_f (by decide) (br_f (by decide) (br_f (by decide) (br_t rfl h)))
  · exact br_f (by decide) (br_f (by decide) (br_f (by decide) (br_f (by decide) (br_t rfl h))))
  · exact br_f (by decide) (br_f (by decide) (br_f (by decide) (br_f (by decide) (br_f (by decide) (br_t rfl h)))))
  · exact br_f (by decide) (br_f (by decide) (br_f (by decide) (br_f (by decide) (br_f (by decide) (br_f (by decide) (br_t rfl h))))))
  · exact br_f (by decide) (br_f (by decide) (br_f (by decide) (br_f (by decide) (br_f (by decide) (br_f (by decide) (br_f (by decide) (br_t rfl h)))))))
  · exact br_f (by decide) (br_f (by decide) (br_f (by decide) (br_f (by decide) (br_f (by decide) (br_f (by decide) (br_f (by decide) (br_f (by decide) (br_t rfl h))))))))
  · exact br_f (by decide) (br_f (by decide) (br_f (by decide) (br_f (by decide) (br_f (by decide) (br_f (by decide) (br_f (by decide) (br_f (by decide) (br_f (by decide) (br_t rfl h)))))))))
  · exact br_f (by decide) (br_f (by decide) (br_f (by decide) (br_f (by decide) (br_f (by decide) (br_f (by decide) (br_f (by decide) (br_f (by decide) (br_f (by decide) (br_f (by decide) (br_t rfl h))))))))))
  · exact br_f (by decide) (br_f (by decide) (br_f (by decide) (br_f (by decide) (br_f (by decide) (br_f (by decide) (br_f (by decide) (br_f (by decide) (br_f (by decide) (br_f (by decide) (br_f (by decide) (br_t rfl h)))))))))))
  · exact br_f (by decide) (br_f (by decide) (br_f (by decide) (br_f (by decide) (br_f (by decide) (br_f (by decide) (br_f (by decide) (br_f (by decide) (br_f (by decide) (br_f (by decide) (br_f (by decide) (br_f (by decide) (br_t rfl h))))))))))))
  · exact br_f (by decide) (br_f (by decide) (br_f (by decide) (br_f (by decide) (br_f (by decide) (br_f (by decide) (br_f (by decide) (br_f (by decide) (br_f (by decide) (br_f (by decide) (br_f (by decide) (br_f (by decide) (br_f (by decide) (br_t rfl h)))))))))))))
  · exact br_f (by decide) (br_f (by decide) (br_f (by decide) (br_f (by decide) (br_f (by decide) (br_f (by decide) (br_f (by decide) (br_f (by decide) (br_f (by decide) (br_f (by decide) (br_f (by decide) (br_f (by decide) (br_f (by decide) (br_f (by decide) (br_t rfl h))))))))))))))
  · exact br_f (by decide) (br_t (by decide) h)
theorem fd_xkC {post : Int32 → Prop} {o : Nat} (ho : o ≤ 13) (h : post (fd_kd 3 o)) : wpX_kindOfC post (g1, g2, g3, g4, g5, g6, g7, g8, g9, g10, g11, g12, g13, g14, g15, g16, g17, g18, g19, g20, g21, g22, g23, g24, g25, g26, g27, g28, g29, g30, g31, g32, g33, g34) (nI o) := by
  obtain rfl | rfl | rfl | rfl | rfl | rfl | rfl | rfl | rfl | rfl | rfl | rfl | rfl | rfl := fd_14 ho
  · exact br_f (by decide) (br_t (by decide) h)
  · exact br_f (by decide) (br_t (by decide) h)
  · exact br_f (by decide) (br_f (by decide) (br_f (by decide) h))
  · exact br_f (by decide) (br_f (by decide) (br_f (by decide) h))
  · exact br_f (by decide) (br_f (by decide) (br_f (by decide) h))
  · exact br_f (by decide) (br_f (by decide) (br_f (by decide) h))
  · exact br_f (by decide) (br_f (by decide) (br_f (by decide) h))
  · exact br_f (by decide) (br_f (by decide) (br_f (by decide) h))
  · exact br_f (by decide) (br_f (by decide) (br_t (by decide) h))
  · exact br_f (by decide) (br_f (by decide) (br_t (by decide) h))
  · exact br_f (by decide) (br_f (by decide) (br_t (by decide) h))
  · exact br_f (by decide) (br_f (by decide) (br_t (by decide) h))
  · exact br_f (by decide) (br_f (by decide) (br_t (by decide) h))
  · exact br_t rfl h
theorem fd_yu1 {post : Int32 → Prop} {o : Nat} (ho : o ≤ 13) (h : post (fd_kd 1 o)) : wpY_use post (nI R, nI C, nI K, nI F, nI L, st, fk, fs, fp, fi, fb, hd, fl, pg, ce, os, oc, ss, ed, re) (nI o) (nI 1) := by
  obtain rfl | rfl | rfl | rfl | rfl | rfl | rfl | rfl | rfl | rfl | rfl | rfl | rfl | rfl := fd_14 ho
  · exact br_t (by decide) (h)
  · exact br_f (by decide) (br_f (by decide) (br_f (by decide) (br_f (by decide) (br_t (by decide) (br_f (by decide) (br_f (by decide) (br_f (by decide) (h))))))))
  · exact br_f (by decide) (br_f (by decide) (br_f (by decide) (br_f (by decide) (br_f (by decide) (br_f (by decide) (br_f (by decide) (h)))))))
  · exact br_f (by decide) (br_f (by decide) (br_f (by decide) (br_f (by decide) (br_f (by decide) (br_f (by decide) (br_f (by decide) (h)))))))
  · exact br_f (by decide) (br_f (by decide) (br_f (by decide) (br_f (by decide) (br_f (by decide) (br_f (by decide) (br_f (by decide) (h)))))))
  · exact br_f (by decide) (br_f (by decide) (br_f (by decide) (br_f (by decide) (br_f (by decide) (br_f (by decide) (br_f (by decide) (h)))))))
  · exact br_f (by decide) (br_f (by decide) (br_f (by decide) (br_f (by decide) (br_f (by decide) (br_f (by decide) (br_f (by decide) (h)))))))
  · exact br_f (by decide) (br_f (by decide) (br_f (by decide) (br_f (by decide) (br_f (by decide) (br_f (by decide) (br_f (by decide) (h)))))))
  · exact br_f (by decide) (br_f (by decide) (br_f (by decide) (br_f (by decide) (br_f (by decide) (br_f (by decide) (br_f (by decide) (h)))))))
  · exact br_f (by decide) (br_f (by decide) (br_f (by decide) (br_f (by decide) (br_f (by decide) (br_f (by decide) (br_f (by decide) (h)))))))
  · exact br_f (by decide) (br_t (by decide) (br_f (by decide) (br_f (by decide) (br_f (by decide) (br_f (by decide) (br_f (by decide) (br_f (by decide) (h))))))))
  · exact br_f (by decide) (br_f (by decide) (br_f (by decide) (br_t (by decide) (br_t (by decide) (h)))))
  · exact br_f (by decide) (br_f (by decide) (br_f (by decide) (br_f (by decide) (br_f (by decide) (br_t (by decide) (br_f (by decide) (br_f (by decide) (h))))))))
  · exact br_f (by decide) (br_f (by decide) (br_f (by decide) (br_f (by decide) (br_f (by decide) (br_f (by decide) (br_t (by decide) (br_f (by decide) (h))))))))
theorem fd_yu2 {post : Int32 → Prop} {o : Nat} (ho : o ≤ 13) (h : post (fd_kd 2 o)) : wpY_use post (nI R, nI C, nI K, nI F, nI L, st, fk, fs, fp, fi, fb, hd, fl, pg, ce, os, oc, ss, ed, re) (nI o) (nI 2) := by
  obtain rfl | rfl | rfl | rfl | rfl | rfl | rfl | rfl | rfl | rfl | rfl | rfl | rfl | rfl := fd_14 ho
  · exact br_t (by decide) (h)
  · exact br_f (by decide) (br_f (by decide) (br_f (by decide) (br_f (by decide) (br_t (by decide) (br_t (by decide) (h))))))
  · exact br_f (by decide) (br_f (by decide) (br_f (by decide) (br_f (by decide) (br_f (by decide) (br_f (by decide) (br_f (by decide) (h)))))))
  · exact br_f (by decide) (br_f (by decide) (br_f (by decide) (br_f (by decide) (br_f (by decide) (br_f (by decide) (br_f (by decide) (h)))))))
  · exact br_f (by decide) (br_f (by decide) (br_f (by decide) (br_f (by decide) (br_f (by decide) (br_f (by decide) (br_f (by decide) (h)))))))
  · exact br_f (by decide) (br_f (by decide) (br_f (by decide) (br_f (by decide) (br_f (by decide) (br_f (by decide) (br_f (by decide) (h)))))))
  · exact br_f (by decide) (br_f (by decide) (br_f (by decide) (br_f (by decide) (br_f (by decide) (br_f (by decide) (br_f (by decide) (h)))))))
  · exact br_f (by decide) (br_f (by decide) (br_f (by decide) (br_f (by decide) (br_f (by decide) (br_f (by decide) (br_f (by decide) (h)))))))
  · exact br_f (by decide) (br_f (by decide) (br_f (by decide) (br_f (by decide) (br_f (by decide) (br_f (by decide) (br_f (by decide) (h)))))))
  · exact br_f (by decide) (br_f (by decide) (br_f (by decide) (br_f (by decide) (br_f (by decide) (br_f (by decide) (br_f (by decide) (h)))))))
  · exact br_f (by decide) (br_t (by decide) (br_t (by decide) (h)))
  · exact br_f (by decide) (br_f (by decide) (br_f (by decide) (br_t (by decide) (br_f (by decide) (h)))))
  · exact br_f (by decide) (br_f (by decide) (br_f (by decide) (br_f (by decide) (br_f (by decide) (br_t (by decide) (br_t (by decide) (h)))))))
  · exact br_f (by decide) (br_f (by decide) (br_f (by decide) (br_f (by decide) (br_f (by decide) (br_f (by decide) (br_t (by decide) (br_f (by decide) (h))))))))
theorem fd_yu3 {post : Int32 → Prop} {o : Nat} (ho : o ≤ 13) (h : post (fd_kd 3 o)) : wpY_use post (nI R, nI C, nI K, nI F, nI L, st, fk, fs, fp, fi, fb, hd, fl, pg, ce, os, oc, ss, ed, re) (nI o) (nI 3) := by
  obtain rfl | rfl | rfl | rfl | rfl | rfl | rfl | rfl | rfl | rfl | rfl | rfl | rfl | rfl := fd_14 ho
  · exact br_t (by decide) (h)
  · exact br_f (by decide) (br_f (by decide) (br_t (by decide) (br_t (by decide) (h))))
  · exact br_f (by decide) (br_f (by decide) (br_t (by decide) (br_f (by decide) (br_f (by decide) (br_f (by decide) (br_f (by decide) (br_f (by decide) (br_f (by decide) (br_f (by decide) (br_f (by decide) (h)))))))))))
  · exact br_f (by decide) (br_f (by decide) (br_t (by decide) (br_f (by decide) (br_f (by decide) (br_f (by decide) (br_f (by decide) (br_f (by decide) (br_f (by decide) (br_f (by decide) (br_f (by decide) (h)))))))))))
  · exact br_f (by decide) (br_f (by decide) (br_t (by decide) (br_f (by decide) (br_f (by decide) (br_f (by decide) (br_f (by decide) (br_f (by decide) (br_f (by decide) (br_f (by decide) (br_f (by decide) (h)))))))))))
  · exact br_f (by decide) (br_f (by decide) (br_t (by decide) (br_f (by decide) (br_f (by decide) (br_f (by decide) (br_f (by decide) (br_f (by decide) (br_f (by decide) (br_f (by decide) (br_f (by decide) (h)))))))))))
  · exact br_f (by decide) (br_f (by decide) (br_t (by decide) (br_f (by decide) (br_f (by decide) (br_f (by decide) (br_f (by decide) (br_f (by decide) (br_f (by decide) (br_f (by decide) (br_f (by decide) (h)))))))))))
  · exact br_f (by decide) (br_f (by decide) (br_t (by decide) (br_f (by decide) (br_f (by decide) (br_f (by decide) (br_f (by decide) (br_f (by decide) (br_f (by decide) (br_f (by decide) (br_f (by decide) (h)))))))))))
  · exact br_f (by decide) (br_f (by decide) (br_t (by decide) (br_f (by decide) (br_t (by decide) (h)))))
  · exact br_f (by decide) (br_f (by decide) (br_t (by decide) (br_f (by decide) (br_f (by decide) (br_t (by decide) (h))))))
  · exact br_f (by decide) (br_t (by decide) (br_t (by decide) (h)))
  · exact br_f (by decide) (br_f (by decide) (br_t (by decide) (br_f (by decide) (br_f (by decide) (br_f (by decide) (br_f (by decide) (br_t (by decide) (br_f (by decide) (h)))))))))
  · exact br_f (by decide) (br_f (by decide) (br_t (by decide) (br_f (by decide) (br_f (by decide) (br_f (by decide) (br_t (by decide) (h)))))))
  · exact br_f (by decide) (br_f (by decide) (br_t (by decide) (br_f (by decide) (br_f (by decide) (br_f (by decide) (br_f (by decide) (br_f (by decide) (br_f (by decide) (br_f (by decide) (br_t (by decide) (br_t (by decide) (h))))))))))))
theorem fd_yuse {post : Int32 → Prop} {o k : Nat} (ho : o ≤ 13) (h1 : 1 ≤ k) (h3 : k ≤ 3) (h : post (fd_kd k o)) : wpY_use post (nI R, nI C, nI K, nI F, nI L, st, fk, fs, fp, fi, fb, hd, fl, pg, ce, os, oc, ss, ed, re) (nI o) (nI k) := by
  obtain rfl | rfl | rfl : k = 1 ∨ k = 2 ∨ k = 3 := by omega
  · exact fd_yu1 ho h
  · exact fd_yu2 ho h
  · exact fd_yu3 ho h
theorem fd_xfit1 {post : Int32 → Prop} {k v : Int32} (hR : 1 ≤ R) (hR8 : R ≤ 8) (hK : K ≤ 24) (hk : fd_ok R K k v) (h : post 1) : wpX_fits post (nI R, nI C, nI K, nI F, nI (2 * R), nI L, hd, cl, fk, fs, fp, fi, fb, st, sd, pl, la, nw, oA, aA, bA, cA, kO, kA, kB, kC, en, sg, ss, oc, ed, os, ce, rg) k v := by
  by_cases h1 : k = 1
  · obtain ⟨x, hx, rfl⟩ := hk.1 h1
    exact br_t h1 (fd_w1 (n := R - 1) (fd_s1 hR) (by omega) (by omega) ⟨rfl, h⟩)
  · by_cases h2 : k = 2
    · obtain ⟨x, hx, rfl⟩ := hk.2 h2
      exact br_f h1 (br_t h2 (fd_w1 (n := K) rfl (by omega) (by omega) (br_f (by decide) h)))
    · exact br_f h1 (br_f h2 h)
theorem fd_xfit0 {post : Int32 → Prop} {k v : Int32} (hR : 1 ≤ R) (hR8 : R ≤ 8) (hK : K ≤ 24) (hk : ¬ fd_ok R K k v) (h : post 0) : wpX_fits post (nI R, nI C, nI K, nI F, nI (2 * R), nI L, hd, cl, fk, fs, fp, fi, fb, st, sd, pl, la, nw, oA, aA, bA, cA, kO, kA, kB, kC, en, sg, ss, oc, ed, os, ce, rg) k v := by
  by_cases h1 : k = 1
  · rcases pk_ix v (n := R) (by omega) with hv | hv | ⟨x, hx, rfl⟩
    · exact br_t h1 (fd_w0n hv ⟨rfl, h⟩)
    · exact br_t h1 (fd_w0b (n := R - 1) (fd_s1 hR) (by omega) (by rw [show R - 1 + 1 = R from by omega]; exact hv) ⟨rfl, h⟩)
    · exact absurd ⟨fun _ => ⟨x, hx, rfl⟩, fun z => absurd (h1.symm.trans z) (by decide)⟩ hk
  · by_cases h2 : k = 2
    · rcases pk_ix v (n := K + 1) (by omega) with hv | hv | ⟨x, hx, rfl⟩
      · exact br_f h1 (br_t h2 (fd_w0n hv (br_t rfl h)))
      · exact br_f h1 (br_t h2 (fd_w0b (n := K) rfl (by omega) hv (br_t rfl h)))
      · exact absurd ⟨fun z => absurd z h1, fun _ => ⟨x, by omega, rfl⟩⟩ hk
    · exact absurd ⟨fun z => absurd z h1, fun z => absurd z h2⟩ hk
theorem fd_xe158 {post : Int32 → SX → Prop} {z : Int32} (hL : L < 25) (h : post 0 (nI R, nI C, nI K, nI F, nI (2 * R), nI (L + 1), hd, cl, fk, fs, fp, fi, fb, st, sd, pl, la, nw, oA, aA, bA, upd cA L z, kO, kA, kB, kC, en, sg, ss, oc, ed, os, ce, rg)) : wX_emit_158 post z (nI L) (nI R) (nI C) (nI K) (nI F) (nI (2 * R)) (nI L) hd cl fk fs fp fi fb st sd pl la nw oA aA bA cA kO kA kB kC en sg ss oc ed os ce rg :=
  ⟨vp_in_nI hL (by decide), nm_r (e' := upd cA L z) (by rw [nI_clamp (by omega)]) (nm_r (nI_1 L) h)⟩
theorem fd_xe138 {post : Int32 → SX → Prop} {x4 x7 z : Int32} (hL : L < 25) (h : post 0 (nI R, nI C, nI K, nI F, nI (2 * R), nI (L + 1), hd, cl, fk, fs, fp, fi, fb, st, sd, pl, la, nw, oA, aA, upd bA L z, upd cA L (if x7 = 0 then 0 else x4), kO, kA, kB, kC, en, sg, ss, oc, ed, os, ce, rg)) : wX_emit_138 post x4 x7 z (nI L) (nI R) (nI C) (nI K) (nI F) (nI (2 * R)) (nI L) hd cl fk fs fp fi fb st sd pl la nw oA aA bA cA kO kA kB kC en sg ss oc ed os ce rg := by
  refine ⟨vp_in_nI hL (by decide), nm_r (e' := upd bA L z) (by rw [nI_clamp (by omega)]) ?_⟩
  by_cases h7 : x7 = 0
  · rw [if_pos h7] at h
    exact br_t h7 (fd_xe158 hL h)
  · rw [if_neg h7] at h
    exact br_f h7 (fd_xe158 hL h)
theorem fd_xe119 {post : Int32 → SX → Prop} {x3 x4 x6 x7 z : Int32} (hL : L < 25) (h : post 0 (nI R, nI C, nI K, nI F, nI (2 * R), nI (L + 1), hd, cl, fk, fs, fp, fi, fb, st, sd, pl, la, nw, oA, upd aA L z, upd bA L (if x6 = 0 then 0 else x3), upd cA L (if x7 = 0 then 0 else x4), kO, kA, kB, kC, en, sg, ss, oc, ed, os, ce, rg)) : wX_emit_119 post x3 x4 x6 x7 z (nI L) (nI R) (nI C) (nI K) (nI F) (nI (2 * R)) (nI L) hd cl fk fs fp fi fb st sd pl la nw oA aA bA cA kO kA kB kC en sg ss oc ed os ce rg := by
  refine ⟨vp_in_nI hL (by decide), nm_r (e' := upd aA L z) (by rw [nI_clamp (by omega)]) ?_⟩
  by_cases h7 : x6 = 0
  · rw [if_pos h7] at h
    exact br_t h7 (fd_xe138 hL h)
  · rw [if_neg h7] at h
    exact br_f h7 (fd_xe138 hL h)
theorem fd_ye121 {post : Int32 → SY → Prop} {J : Int32 → (Nat → Int32) → (Nat → Int32) → (Nat → Int32) → (Nat → Int32) → (Nat → Int32) → (Nat → Int32) → (Nat → Int32) → Prop} {x1 x2 x3 x4 z kk : Int32} {k : Nat} (hL : L < 24) (hk : k ≤ 3)
    (h : J (nI (k + 1)) (upd pg (4 * L + k) (if kk = 0 then 0 else z)) ce os oc ss ed re) : wY_emit_121 post J x1 x2 x3 x4 (nI k) z kk (nI R) (nI C) (nI K) (nI F) (nI L) st fk fs fp fi fb hd fl pg ce os oc ss ed re := by
  have e : 4 * nI L + nI k = nI (4 * L + k) := fd_4mk L k
  have hv : vp_in (4 * nI L + nI k) 96 := by rw [e]; exact vp_in_nI (by omega) (by decide)
  have ec : (4 * nI L + nI k).toNatClampNeg = 4 * L + k := by rw [e]; exact nI_clamp (by omega)
  by_cases h0 : kk = 0
  · rw [if_pos h0] at h
    exact br_t h0 ⟨hv, nm_r (e' := upd pg (4 * L + k) 0) (by rw [ec]) (nm_r (nI_1 k) h)⟩
  · rw [if_neg h0] at h
    exact br_f h0 ⟨hv, nm_r (e' := upd pg (4 * L + k) z) (by rw [ec]) (nm_r (nI_1 k) h)⟩
theorem fd_ye1 {post : Int32 → SY → Prop} {J : Int32 → (Nat → Int32) → (Nat → Int32) → (Nat → Int32) → (Nat → Int32) → (Nat → Int32) → (Nat → Int32) → (Nat → Int32) → Prop} {x2 x3 x4 z : Int32} {k o : Nat} (ho : o ≤ 13) (hR8 : R ≤ 8) (hK : K ≤ 24) (hL : L < 24) (h1 : 1 ≤ k) (hk : k ≤ 3) (hok : fd_ok R K (fd_kd k o) z)
    (h : J (nI (k + 1)) (upd pg (4 * L + k) (if fd_kd k o = 0 then 0 else z)) ce os oc ss ed re) : wY_emit_67 post J (nI o) x2 x3 x4 (nI k) z (nI R) (nI C) (nI K) (nI F) (nI L) st fk fs fp fi fb hd fl pg ce os oc ss ed re := by
  unfold wY_emit_67
  refine fd_yuse ho h1 hk ?_
  have z121 : wY_emit_121 post J (nI o) x2 x3 x4 (nI k) z (fd_kd k o) (nI R) (nI C) (nI K) (nI F) (nI L) st fk fs fp fi fb hd fl pg ce os oc ss ed re := fd_ye121 hL hk h
  have z98 : wY_emit_98 post J (nI o) x2 x3 x4 (nI k) z (fd_kd k o) (nI R) (nI C) (nI K) (nI F) (nI L) st fk fs fp fi fb hd fl pg ce os oc ss ed re := by
    by_cases h2 : fd_kd k o = 2
    · obtain ⟨x, hx, rfl⟩ := hok.2 h2
      exact br_t h2 (br_f (nI_pos (by omega)) (br_t (nI_le hx (by omega)) z121))
    · exact br_f h2 z121
  by_cases h2 : fd_kd k o = 1
  · obtain ⟨x, hx, rfl⟩ := hok.1 h2
    exact br_t h2 (br_f (nI_pos (by omega)) (br_f (nI_ge hx (by omega)) z98))
  · exact br_f h2 z98
theorem fd_ye0 {post : Int32 → SY → Prop} {J : Int32 → (Nat → Int32) → (Nat → Int32) → (Nat → Int32) → (Nat → Int32) → (Nat → Int32) → (Nat → Int32) → (Nat → Int32) → Prop} {x2 x3 x4 z : Int32} {k o : Nat} (ho : o ≤ 13) (hR8 : R ≤ 8) (hK : K ≤ 24) (h1 : 1 ≤ k) (hk : k ≤ 3) (hok : ¬ fd_ok R K (fd_kd k o) z)
    (h : post (-4) (nI R, nI C, nI K, nI F, nI L, st, fk, fs, fp, fi, fb, hd, fl, pg, ce, os, oc, ss, ed, re)) : wY_emit_67 post J (nI o) x2 x3 x4 (nI k) z (nI R) (nI C) (nI K) (nI F) (nI L) st fk fs fp fi fb hd fl pg ce os oc ss ed re := by
  unfold wY_emit_67
  refine fd_yuse ho h1 hk ?_
  by_cases h1 : fd_kd k o = 1
  · rcases pk_ix z (n := R) (by omega) with hv | hv | ⟨x, hx, rfl⟩
    · exact br_t h1 (br_t hv h)
    · exact br_t h1 (br_f (fd_ge0 (by omega) hv) (br_t hv h))
    · exact absurd ⟨fun _ => ⟨x, hx, rfl⟩, fun z => absurd (h1.symm.trans z) (by decide)⟩ hok
  · by_cases h2 : fd_kd k o = 2
    · rcases pk_ix z (n := K + 1) (by omega) with hv | hv | ⟨x, hx, rfl⟩
      · exact br_f h1 (br_t h2 (br_t hv h))
      · exact br_f h1 (br_t h2 (br_f (fd_ge0 (by omega) hv) (br_f (fd_big (by omega) hv (n := K) (by omega)).2.2.1 h)))
      · exact absurd ⟨fun z => absurd z h1, fun _ => ⟨x, by omega, rfl⟩⟩ hok
    · exact absurd ⟨fun z => absurd z h1, fun z => absurd z h2⟩ hok
theorem fd_mkVI {o : Nat} {a b c : Int32} (ho : o ≤ 13) (ha : fd_ok R K (fd_kd 1 o) a) (hb : fd_ok R K (fd_kd 2 o) b) (hc : fd_ok R K (fd_kd 3 o) c) : fd_VI R K (nI o) (if fd_kd 1 o = 0 then 0 else a) (if fd_kd 2 o = 0 then 0 else b) (if fd_kd 3 o = 0 then 0 else c) := by
  obtain rfl | rfl | rfl | rfl | rfl | rfl | rfl | rfl | rfl | rfl | rfl | rfl | rfl | rfl := fd_14 ho
  · rw [if_pos (show fd_kd 1 0 = 0 from by decide), if_pos (show fd_kd 2 0 = 0 from by decide), if_pos (show fd_kd 3 0 = 0 from by decide)]
    exact Or.inl ⟨rfl, rfl, rfl, rfl⟩
  · obtain ⟨wa, ga, rfl⟩ := ha.1 (by decide)
    rw [if_neg (show ¬ fd_kd 1 1 = 0 from by decide), if_neg (show ¬ fd_kd 2 1 = 0 from by decide), if_pos (show fd_kd 3 1 = 0 from by decide)]
    exact Or.inr (Or.inl ⟨rfl, wa, ga, rfl, rfl⟩)
  · obtain ⟨wa, ga, rfl⟩ := ha.1 (by decide)
    obtain ⟨wb, gb, rfl⟩ := hb.1 (by decide)
    obtain ⟨wc, gc, rfl⟩ := hc.1 (by decide)
    rw [if_neg (show ¬ fd_kd 1 2 = 0 from by decide), if_neg (show ¬ fd_kd 2 2 = 0 from by decide), if_neg (show ¬ fd_kd 3 2 = 0 from by decide)]
    exact Or.inr (Or.inr (Or.inl ⟨2, by decide, by decide, rfl, wa, wb, wc, ga, gb, gc, rfl, rfl, rfl⟩))
  · obtain ⟨wa, ga, rfl⟩ := ha.1 (by decide)
    obtain ⟨wb, gb, rfl⟩ := hb.1 (by decide)
    obtain ⟨wc, gc, rfl⟩ := hc.1 (by decide)
    rw [if_neg (show ¬ fd_kd 1 3 = 0 from by decide), if_neg (show ¬ fd_kd 2 3 = 0 from by decide), if_neg (show ¬ fd_kd 3 3 = 0 from by decide)]
    exact Or.inr (Or.inr (Or.inl ⟨3, by decide, by decide, rfl, wa, wb, wc, ga, gb, gc, rfl, rfl, rfl⟩))
  · obtain ⟨wa, ga, rfl⟩ := ha.1 (by decide)
    obtain ⟨wb, gb, rfl⟩ := hb.1 (by decide)
    obtain ⟨wc, gc, rfl⟩ := hc.1 (by decide)
    rw [if_neg (show ¬ fd_kd 1 4 = 0 from by decide), if_neg (show ¬ fd_kd 2 4 = 0 from by decide), if_neg (show ¬ fd_kd 3 4 = 0 from by decide)]
    exact Or.inr (Or.inr (Or.inl ⟨4, by decide, by decide, rfl, wa, wb, wc, ga, gb, gc, rfl, rfl, rfl⟩))
  · obtain ⟨wa, ga, rfl⟩ := ha.1 (by decide)
    obtain ⟨wb, gb, rfl⟩ := hb.1 (by decide)
    obtain ⟨wc, gc, rfl⟩ := hc.1 (by decide)
    rw [if_neg (show ¬ fd_kd 1 5 = 0 from by decide), if_neg (show ¬ fd_kd 2 5 = 0 from by decide), if_neg (show ¬ fd_kd 3 5 = 0 from by decide)]
    exact Or.inr (Or.inr (Or.inl ⟨5, by decide, by decide, rfl, wa, wb, wc, ga, gb, gc, rfl, rfl, rfl⟩))
  · obtain ⟨wa, ga, rfl⟩ := ha.1 (by decide)
    obtain ⟨wb, gb, rfl⟩ := hb.1 (by decide)
    obtain ⟨wc, gc, rfl⟩ := hc.1 (by decide)
    rw [if_neg (show ¬ fd_kd 1 6 = 0 from by decide), if_neg (show ¬ fd_kd 2 6 = 0 from by decide), if_neg (show ¬ fd_kd 3 6 = 0 from by decide)]
    exact Or.inr (Or.inr (Or.inl ⟨6, by decide, by decide, rfl, wa, wb, wc, ga, gb, gc, rfl, rfl, rfl⟩))
  · obtain ⟨wa, ga, rfl⟩ := ha.1 (by decide)
    obtain ⟨wb, gb, rfl⟩ := hb.1 (by decide)
    obtain ⟨wc, gc, rfl⟩ := hc.1 (by decide)
    rw [if_neg (show ¬ fd_kd 1 7 = 0 from by decide), if_neg (show ¬ fd_kd 2 7 = 0 from by decide), if_neg (show ¬ fd_kd 3 7 = 0 from by decide)]
    exact Or.inr (Or.inr (Or.inl ⟨7, by decide, by decide, rfl, wa, wb, wc, ga, gb, gc, rfl, rfl, rfl⟩))
  · obtain ⟨wa, ga, rfl⟩ := ha.1 (by decide)
    obtain ⟨wb, gb, rfl⟩ := hb.1 (by decide)
    rw [if_neg (show ¬ fd_kd 1 8 = 0 from by decide), if_neg (show ¬ fd_kd 2 8 = 0 from by decide), if_pos (show fd_kd 3 8 = 0 from by decide)]
    exact Or.inr (Or.inr (Or.inr (Or.inl ⟨rfl, wa, wb, ga, gb, rfl, rfl, rfl⟩)))
  · obtain ⟨wa, ga, rfl⟩ := ha.1 (by decide)
    obtain ⟨wb, gb, rfl⟩ := hb.1 (by decide)
    rw [if_neg (show ¬ fd_kd 1 9 = 0 from by decide), if_neg (show ¬ fd_kd 2 9 = 0 from by decide), if_pos (show fd_kd 3 9 = 0 from by decide)]
    exact Or.inr (Or.inr (Or.inr (Or.inr (Or.inl ⟨rfl, wa, wb, ga, gb, rfl, rfl, rfl⟩))))
  · obtain ⟨wa, ga, rfl⟩ := ha.1 (by decide)
    rw [if_neg (show ¬ fd_kd 1 10 = 0 from by decide), if_pos (show fd_kd 2 10 = 0 from by decide), if_pos (show fd_kd 3 10 = 0 from by decide)]
    exact Or.inr (Or.inr (Or.inr (Or.inr (Or.inr (Or.inl ⟨rfl, wa, ga, rfl, rfl, rfl⟩)))))
  · obtain ⟨wa, ga, rfl⟩ := ha.2 (by decide)
    rw [if_neg (show ¬ fd_kd 1 11 = 0 from by decide), if_pos (show fd_kd 2 11 = 0 from by decide), if_pos (show fd_kd 3 11 = 0 from by decide)]
    exact Or.inr (Or.inr (Or.inr (Or.inr (Or.inr (Or.inr (Or.inl ⟨rfl, wa, ga, rfl, rfl, rfl⟩))))))
  · obtain ⟨wa, ga, rfl⟩ := ha.1 (by decide)
    obtain ⟨wb, gb, rfl⟩ := hb.2 (by decide)
    rw [if_neg (show ¬ fd_kd 1 12 = 0 from by decide), if_neg (show ¬ fd_kd 2 12 = 0 from by decide), if_pos (show fd_kd 3 12 = 0 from by decide)]
    exact Or.inr (Or.inr (Or.inr (Or.inr (Or.inr (Or.inr (Or.inr (Or.inl ⟨rfl, wa, wb, ga, gb, rfl, rfl, rfl⟩)))))))
  · obtain ⟨wa, ga, rfl⟩ := ha.1 (by decide)
    obtain ⟨wb, gb, rfl⟩ := hb.1 (by decide)
    obtain ⟨wc, gc, rfl⟩ := hc.2 (by decide)
    rw [if_neg (show ¬ fd_kd 1 13 = 0 from by decide), if_neg (show ¬ fd_kd 2 13 = 0 from by decide), if_neg (show ¬ fd_kd 3 13 = 0 from by decide)]
    exact Or.inr (Or.inr (Or.inr (Or.inr (Or.inr (Or.inr (Or.inr (Or.inr (⟨rfl, wa, wb, wc, ga, gb, gc, rfl, rfl, rfl⟩))))))))
theorem fd_Femit {o : Nat} {a b c : Int32} (h : fd_F R C K F L hd fk fi fb oA aA bA cA kO kA kB kC en sg oc pg) (hL : L < K) (hh : hd = 0) (hV : fd_VI R K (nI o) a b c) : fd_F R C K F (L + 1) hd fk fi fb (upd oA L (nI o)) (upd aA L a) (upd bA L b) (upd cA L c) kO kA kB kC en sg oc (upd (upd (upd (upd pg (4 * L + 1) a) (4 * L + 2) b) (4 * L + 3) c) (4 * L) (nI o)) := by
  obtain ⟨⟨h1, h2, h3, h4, h5, h6, h7, h8, h9⟩, ⟨p1, p2, p3⟩, ⟨f1, f2⟩, h12, _⟩ := h
  refine ⟨⟨h1, h2, h3, h4, h5, h6, h7, h8, hL⟩, ⟨?_, ?_, ?_⟩, ⟨f1, fun z => ?_⟩, h12, Or.inl hh⟩
  · intro p hp
    by_cases e : p = L
    · subst e
      rw [pk_us, pk_us, pk_us, pk_us]
      exact hV
    · rw [pk_un e, pk_un e, pk_un e, pk_un e]
      exact p1 p hp
  · intro p hq hp
    have e : p ≠ L := by omega
    rw [pk_un e, pk_un e, pk_un e, pk_un e]
    exact p2 p (by omega) hp
  · intro p hp
    by_cases e : p = L
    · subst e
      rw [pk_us, pk_us, pk_us, pk_us, pk_us]
      refine ⟨rfl, ?_, ?_, ?_⟩
      · rw [pk_un (by omega), pk_un (by omega), pk_un (by omega), pk_us]
      · rw [pk_un (by omega), pk_un (by omega), pk_us]
      · rw [pk_un (by omega), pk_us]
    · rw [pk_un e, pk_un e, pk_un e, pk_un e]
      have z := p3 p (by omega)
      refine ⟨?_, ?_, ?_, ?_⟩
      · rw [pk_un (by omega), pk_un (by omega), pk_un (by omega), pk_un (by omega)]; exact z.1
      · rw [pk_un (by omega), pk_un (by omega), pk_un (by omega), pk_un (by omega)]; exact z.2.1
      · rw [pk_un (by omega), pk_un (by omega), pk_un (by omega), pk_un (by omega)]; exact z.2.2.1
      · rw [pk_un (by omega), pk_un (by omega), pk_un (by omega), pk_un (by omega)]; exact z.2.2.2
  · obtain ⟨t, ht, e⟩ := f2 z
    exact ⟨t, by omega, e⟩
/-- a refused emit may have left marks in the reference behind its program's end -/
theorem fd_Fpg {pg' : Nat → Int32} (h : fd_F R C K F L hd fk fi fb oA aA bA cA kO kA kB kC en sg oc pg) (hp : ∀ j, j < 4 * L → pg' j = pg j) : fd_F R C K F L hd fk fi fb oA aA bA cA kO kA kB kC en sg oc pg' := by
  obtain ⟨h1, ⟨p1, p2, p3⟩, h3⟩ := h
  refine ⟨h1, ⟨p1, p2, fun p q => ?_⟩, h3⟩
  rw [hp _ (by omega), hp _ (by omega), hp _ (by omega), hp _ (by omega)]
  exact p3 p q
theorem fd_vemit {k : Nat} {v1 v2 v3 v4 : Int32} (h : fd_F R C K F L hd fk fi fb oA aA bA cA kO kA kB kC en sg oc pg) : wpX_emit (fun r u' => wpY_emit (fun r' v' => r' = r ∧ i_Rel (k + 5) u' v') (nI R, nI C, nI K, nI F, nI L, st, fk, fs, fp, fi, fb, hd, fl, pg, ce, os, oc, ss, ed, re) v1 v2 v3 v4) (nI R, nI C, nI K, nI F, nI (2 * R), nI L, hd, cl, fk, fs, fp, fi, fb, st, sd, pl, la, nw, oA, aA, bA, cA, kO, kA, kB, kC, en, sg, ss, oc, ed, os, ce, rg) v1 v2 v3 v4 := by
  have hs := h.1
  unfold fd_Sz at hs
  by_cases hh : hd = 0
  · refine br_t hh ?_
    by_cases hL : L < K
    · have eL : ¬ nI L = nI K := by rw [nI_eq (by omega) (by omega)]; omega
      refine br_t (nI_lt hL (by omega)) ?_
      rcases pk_ix v1 (n := 14) (by decide) with hv | hv | ⟨o, ho, rfl⟩
      · refine fd_w0n hv (br_t rfl ?_)
        exact br_t hh (br_f eL (br_t hv ⟨rfl, fd_in h⟩))
      · refine fd_w0b (n := 13) rfl (by decide) hv (br_t rfl ?_)
        exact br_t hh (br_f eL (br_f (fd_ge0 (by decide) hv) (br_f (fd_big (by decide) hv (n := 13) (by decide)).2.2.1 ⟨rfl, fd_in h⟩)))
      · have ho13 : o ≤ 13 := by omega
        have o0 : ¬ nI o < 0 := nI_pos (by omega)
        have o13 : nI o ≤ (13 : Int32) := nI_le (a := o) (b := 13) ho13 (by decide)
        refine fd_w1 (n := 13) rfl (by omega) (by decide) (br_f (by decide) ?_)
        refine fd_xkA ho13 ?_
        refine fd_xkB ho13 ?_
        refine fd_xkC ho13 ?_
        by_cases k1 : fd_ok R K (fd_kd 1 o) v2
        · refine fd_xfit1 (by omega) (by omega) (by omega) k1 (br_f (by decide) ?_)
          by_cases k2 : fd_ok R K (fd_kd 2 o) v3
          · refine fd_xfit1 (by omega) (by omega) (by omega) k2 (br_f (by decide) ?_)
            by_cases k3 : fd_ok R K (fd_kd 3 o) v4
            · refine fd_xfit1 (by omega) (by omega) (by omega) k3 (br_f (by decide) ?_)
              refine ⟨vp_in_nI (by omega) (by decide), nm_r (e' := upd oA L (nI o)) (by rw [nI_clamp (by omega)]) ?_⟩
              have fin : wpY_emit (fun r' v' => r' = 0 ∧ i_Rel (k + 5) (nI R, nI C, nI K, nI F, nI (2 * R), nI (L + 1), hd, cl, fk, fs, fp, fi, fb, st, sd, pl, la, nw, upd oA L (nI o), upd aA L (if fd_kd 1 o = 0 then 0 else v2), upd bA L (if fd_kd 2 o = 0 then 0 else v3), upd cA L (if fd_kd 3 o = 0 then 0 else v4), kO, kA, kB, kC, en, sg, ss, oc, ed, os, ce, rg) v') (nI R, nI C, nI K, nI F, nI L, st, fk, fs, fp, fi, fb, hd, fl, pg, ce, os, oc, ss, ed, re) (nI o) v2 v3 v4 := by
                refine br_t hh (br_f eL (br_f o0 (br_t o13 ⟨4, ?_⟩)))
                refine br_f (by decide) (br_t rfl ?_)
                refine fd_ye1 (k := 1) ho13 (by omega) (by omega) (by omega) (by decide) (by decide) k1 ?_
                refine br_f (by decide) (br_f (by decide) (br_t rfl ?_))
                refine fd_ye1 (k := 2) ho13 (by omega) (by omega) (by omega) (by decide) (by decide) k2 ?_
                refine br_f (by decide) (br_f (by decide) (br_f (by decide) ?_))
                refine fd_ye1 (k := 3) ho13 (by omega) (by omega) (by omega) (by decide) (by decide) k3 ?_
                refine br_t (by decide) ⟨by rw [fd_4m]; exact vp_in_nI (by omega) (by decide), ?_⟩
                refine nm_r (by rw [fd_4m, nI_clamp (by omega)]) (nm_r (nI_1 L) ?_)
                exact ⟨rfl, fd_in (L := L + 1) (fd_Femit h hL hh (fd_mkVI ho13 k1 k2 k3))⟩
              by_cases ka : fd_kd 1 o = 0
              · rw [if_pos ka] at fin
                exact br_t ka (fd_xe119 (by omega) fin)
              · rw [if_neg ka] at fin
                exact br_f ka (fd_xe119 (by omega) fin)
            · refine fd_xfit0 (by omega) (by omega) (by omega) k3 (br_t rfl ?_)
              refine br_t hh (br_f eL (br_f o0 (br_t o13 ⟨3, ?_⟩)))
              refine br_f (by decide) (br_t rfl ?_)
              refine fd_ye1 (k := 1) ho13 (by omega) (by omega) (by omega) (by decide) (by decide) k1 ?_
              refine br_f (by decide) (br_f (by decide) (br_t rfl ?_))
              refine fd_ye1 (k := 2) ho13 (by omega) (by omega) (by omega) (by decide) (by decide) k2 ?_
              refine br_f (by decide) (br_f (by decide) (br_f (by decide) ?_))
              refine fd_ye0 (k := 3) ho13 (by omega) (by omega) (by decide) (by decide) k3 ?_
              exact ⟨rfl, fd_in (fd_Fpg h fun j hj => by rw [pk_un (by omega), pk_un (by omega)])⟩
          · refine fd_xfit0 (by omega) (by omega) (by omega) k2 (br_t rfl ?_)
            refine br_t hh (br_f eL (br_f o0 (br_t o13 ⟨2, ?_⟩)))
            refine br_f (by decide) (br_t rfl ?_)
            refine fd_ye1 (k := 1) ho13 (by omega) (by omega) (by omega) (by decide) (by decide) k1 ?_
            refine br_f (by decide) (br_f (by decide) (br_t rfl ?_))
            refine fd_ye0 (k := 2) ho13 (by omega) (by omega) (by decide) (by decide) k2 ?_
            exact ⟨rfl, fd_in (fd_Fpg h fun j hj => by rw [pk_un (by omega)])⟩
        · refine fd_xfit0 (by omega) (by omega) (by omega) k1 (br_t rfl ?_)
          refine br_t hh (br_f eL (br_f o0 (br_t o13 ⟨1, ?_⟩)))
          refine br_f (by decide) (br_t rfl ?_)
          refine fd_ye0 (k := 1) ho13 (by omega) (by omega) (by decide) (by decide) k1 ?_
          exact ⟨rfl, fd_in h⟩
    · have eL : nI L = nI K := congrArg nI (by omega)
      exact br_f (nI_nlt (by omega) (by omega)) (br_t hh (br_t eL ⟨rfl, fd_in h⟩))
  · exact br_f hh (br_f hh ⟨rfl, fd_in h⟩)
end
section
variable {R C K F L : Nat} {hd cl fk fs fp fi fb st sd pl la nw fl : Int32} {oA aA bA cA kO kA kB kC en sg ss oc ed os ce rg pg re : Nat → Int32}
/-! lists of code -/
theorem fd_IsS {l : List fd_Q} {o a b c : Int32} (h : fd_Is l kO kA kB kC) : fd_Is (l ++ [(o, a, b, c)]) (upd kO l.length o) (upd kA l.length a) (upd kB l.length b) (upd kC l.length c) := by
  intro j hj
  by_cases e : j = l.length
  · subst e
    rw [pk_us, pk_us, pk_us, pk_us, List.getElem?_append_right (Nat.le_refl _), Nat.sub_self]
    rfl
  · have hj2 : j < l.length := by
      rw [List.length_append] at hj
      have : ([(o, a, b, c)] : List fd_Q).length = 1 := rfl
      omega
    rw [pk_un e, pk_un e, pk_un e, pk_un e, List.getElem?_append_left hj2]
    exact h j hj2
theorem fd_len1 {l : List fd_Q} {q : fd_Q} : (l ++ [q]).length = l.length + 1 := by
  rw [List.length_append]
  rfl
theorem fd_put {post : SX → Prop} {l : List fd_Q} {o a b c : Int32} (hI : fd_Is l kO kA kB kC) (hl : l.length < 200)
    (h : ∀ kO kA kB kC : Nat → Int32, fd_Is (l ++ [(o, a, b, c)]) kO kA kB kC → post (nI R, nI C, nI K, nI F, nI (2 * R), nI L, hd, nI (l ++ [(o, a, b, c)]).length, fk, fs, fp, fi, fb, st, sd, pl, la, nw, oA, aA, bA, cA, kO, kA, kB, kC, en, sg, ss, oc, ed, os, ce, rg)) : wpX_put post (nI R, nI C, nI K, nI F, nI (2 * R), nI L, hd, nI l.length, fk, fs, fp, fi, fb, st, sd, pl, la, nw, oA, aA, bA, cA, kO, kA, kB, kC, en, sg, ss, oc, ed, os, ce, rg) o a b c := by
  have hv : vp_in (nI l.length) 200 := vp_in_nI hl (by decide)
  refine br_f (nI_ge (b := 200) hl (by decide)) ⟨hv, fun s1 e1 => ⟨hv, fun s2 e2 => ⟨hv, fun s3 e3 => ⟨hv, fun s4 e4 => ?_⟩⟩⟩⟩
  rw [nI_clamp (by omega)] at e1 e2 e3 e4
  refine nm_r (e' := nI (l ++ [(o, a, b, c)]).length) (by rw [nI_1, fd_len1]) ?_
  exact h s1 s2 s3 s4 (by rw [e1, e2, e3, e4]; exact fd_IsS hI)
theorem fd_xck {post : SX → Prop} {m : Int32} (hR8 : R ≤ 8) : ∀ (d r n : Nat) (l : List fd_Q) (kO kA kB kC : Nat → Int32), r + d = R → d < n → fd_Is l kO kA kB kC → l.length + (fd_ck m d r).length ≤ 200 →
    (∀ kO kA kB kC : Nat → Int32, fd_Is (l ++ fd_ck m d r) kO kA kB kC → post (nI R, nI C, nI K, nI F, nI (2 * R), nI L, hd, nI (l ++ fd_ck m d r).length, fk, fs, fp, fi, fb, st, sd, pl, la, nw, oA, aA, bA, cA, kO, kA, kB, kC, en, sg, ss, oc, ed, os, ce, rg)) → wX_compileChecks_16 post m n (nI r) (nI R) (nI C) (nI K) (nI F) (nI (2 * R)) (nI L) hd (nI l.length) fk fs fp fi fb st sd pl la nw oA aA bA cA kO kA kB kC en sg ss oc ed os ce rg := by
  intro d
  induction d with
  | zero =>
    intro r n l kO kA kB kC hr hn hI hl h
    obtain ⟨n, rfl, hm⟩ := fd_suc hn
    obtain rfl : r = R := by omega
    have h2 := h kO kA kB kC (by show fd_Is (l ++ []) kO kA kB kC; rw [List.append_nil]; exact hI)
    have e : l ++ fd_ck m 0 r = l := List.append_nil l
    rw [e] at h2
    exact br_t (nI_le (Nat.le_refl _) (by omega)) h2
  | succ d ih =>
    intro r n l kO kA kB kC hr hn hI hl h
    obtain ⟨n, rfl, hm⟩ := fd_suc hn
    refine br_f (nI_ge (by omega) (by omega)) ?_
    by_cases hb : ((m >>> (nI r &&& 31)) &&& 1) = 1
    · have e : fd_ck m (d + 1) r = [(15, nI r, 0, 0)] ++ fd_ck m d (r + 1) := by
        show (if ((m >>> (nI r &&& 31)) &&& 1) = 1 then [((15, nI r, 0, 0) : fd_Q)] else []) ++ fd_ck m d (r + 1) = _
        rw [if_pos hb]
      rw [e, List.length_append] at hl
      have h1 : ([(15, nI r, 0, 0)] : List fd_Q).length = 1 := rfl
      refine br_t hb (fd_put hI (by omega) fun kO kA kB kC hI => nm_r (nI_1 r) ?_)
      refine ih (r + 1) n _ kO kA kB kC (by omega) (by omega) hI (by rw [fd_len1]; omega) fun kO kA kB kC hI => ?_
      rw [List.append_assoc, ← e] at hI ⊢
      exact h kO kA kB kC hI
    · have e : fd_ck m (d + 1) r = fd_ck m d (r + 1) := by
        show (if ((m >>> (nI r &&& 31)) &&& 1) = 1 then [((15, nI r, 0, 0) : fd_Q)] else []) ++ fd_ck m d (r + 1) = _
        rw [if_neg hb]
        rfl
      rw [e] at hl h
      exact br_f hb (nm_r (nI_1 r) (ih (r + 1) n l kO kA kB kC (by omega) (by omega) hI hl h))
/-- the two checks' length -/
theorem fd_ckl0 : ∀ R : Fin 9, (fd_ck 0 R.val 0).length ≤ 2 := by decide +kernel
theorem fd_ckl1 : ∀ (R : Fin 9) (x : Fin 8), (fd_ck ((1 : Int32) <<< (nI x.val &&& 31)) R.val 0).length ≤ 2 := by decide +kernel
theorem fd_ckl2 : ∀ (R : Fin 9) (x y : Fin 8), (fd_ck (((1 : Int32) <<< (nI x.val &&& 31)) ||| ((1 : Int32) <<< (nI y.val &&& 31))) R.val 0).length ≤ 2 := by decide +kernel
theorem fd_mk0 {o a b : Int32} {k : Nat} (hk : k ≤ 7 ∨ k = 11) (ho : o = nI k) : fd_mask o a b = 0 := by
  subst ho
  obtain rfl | rfl | rfl | rfl | rfl | rfl | rfl | rfl | rfl : k = 0 ∨ k = 1 ∨ k = 2 ∨ k = 3 ∨ k = 4 ∨ k = 5 ∨ k = 6 ∨ k = 7 ∨ k = 11 := by omega
  all_goals rfl
theorem fd_ckl {T : Nat} {o a b c : Int32} (hR8 : R ≤ 8) (hV : fd_VI R T o a b c) : (fd_ck (fd_mask o a b) R 0).length ≤ 2 := by
  have z0 := fd_ckl0 ⟨R, by omega⟩
  rcases hV with ⟨rfl, _⟩ | ⟨rfl, _⟩ | ⟨k, h2, h7, rfl, _⟩ | ⟨rfl, x, y, hx, hy, rfl, rfl, _⟩ | ⟨rfl, x, y, hx, hy, rfl, rfl, _⟩ | ⟨rfl, x, hx, rfl, rfl, _⟩ | ⟨rfl, _⟩ | ⟨rfl, x, y, hx, hy, rfl, rfl, _⟩ | ⟨rfl, x, y, t, hx, hy, ht, rfl, rfl, _⟩
  · exact z0
  · exact z0
  · rw [fd_mk0 (Or.inl h7) rfl]; exact z0
  · exact fd_ckl1 ⟨R, by omega⟩ ⟨y, by omega⟩
  · exact fd_ckl2 ⟨R, by omega⟩ ⟨x, by omega⟩ ⟨y, by omega⟩
  · exact fd_ckl1 ⟨R, by omega⟩ ⟨x, by omega⟩
  · exact z0
  · exact fd_ckl1 ⟨R, by omega⟩ ⟨x, by omega⟩
  · exact fd_ckl2 ⟨R, by omega⟩ ⟨x, by omega⟩ ⟨y, by omega⟩
/-! the compiler's parts -/
theorem fd_xchks {post : SX → Prop} {l : List fd_Q} {p : Nat} {m : Int32} (hR8 : R ≤ 8) (hp : p < 25) (hs : sg p = fd_sig p) (hI : fd_Is l kO kA kB kC) (hl : l.length + 1 + (fd_ck m R 0).length ≤ 200)
    (h : ∀ kO kA kB kC : Nat → Int32, fd_Is (l ++ (14, fd_sig p, 0, 0) :: fd_ck m R 0) kO kA kB kC → post (nI R, nI C, nI K, nI F, nI (2 * R), nI L, hd, nI (l ++ (14, fd_sig p, 0, 0) :: fd_ck m R 0).length, fk, fs, fp, fi, fb, st, sd, pl, la, nw, oA, aA, bA, cA, kO, kA, kB, kC, en, sg, ss, oc, ed, os, ce, rg)) : wpX_compileChecks post (nI R, nI C, nI K, nI F, nI (2 * R), nI L, hd, nI l.length, fk, fs, fp, fi, fb, st, sd, pl, la, nw, oA, aA, bA, cA, kO, kA, kB, kC, en, sg, ss, oc, ed, os, ce, rg) (nI p) m := by
  have es : sg (nI p).toNatClampNeg = fd_sig p := by rw [nI_clamp (by omega)]; exact hs
  refine ⟨vp_in_nI hp (by decide), ?_⟩
  rw [es]
  refine fd_put hI (by omega) fun kO kA kB kC hI => ⟨R + 1, ?_⟩
  refine fd_xck hR8 R 0 (R + 1) _ kO kA kB kC (by omega) (by omega) hI (by rw [fd_len1]; omega) fun kO kA kB kC hI => ?_
  have e : l ++ [(14, fd_sig p, 0, 0)] ++ fd_ck m R 0 = l ++ (14, fd_sig p, 0, 0) :: fd_ck m R 0 := by rw [List.append_assoc]; rfl
  rw [e] at hI ⊢
  exact h kO kA kB kC hI
theorem fd_x116 {post : SX → Prop} {l : List fd_Q} {p : Nat} (hp : p < 24) (hs : sg p = fd_sig p) (hs1 : sg (p + 1) = fd_sig (p + 1)) (hI : fd_Is l kO kA kB kC) (hl : l.length < 200)
    (h : ∀ kO kA kB kC : Nat → Int32, fd_Is (l ++ [(18, fd_sig p ^^^ fd_sig (p + 1), 0, 0)]) kO kA kB kC → post (nI R, nI C, nI K, nI F, nI (2 * R), nI L, hd, nI (l ++ [(18, fd_sig p ^^^ fd_sig (p + 1), 0, 0)]).length, fk, fs, fp, fi, fb, st, sd, pl, la, nw, oA, aA, bA, cA, kO, kA, kB, kC, en, sg, ss, oc, ed, os, ce, rg)) : wX_compileStraight_116 post (nI p) (nI R) (nI C) (nI K) (nI F) (nI (2 * R)) (nI L) hd (nI l.length) fk fs fp fi fb st sd pl la nw oA aA bA cA kO kA kB kC en sg ss oc ed os ce rg := by
  have es : sg (nI p).toNatClampNeg = fd_sig p := by rw [nI_clamp (by omega)]; exact hs
  have es1 : sg (nI p + 1).toNatClampNeg = fd_sig (p + 1) := by rw [nI_1, nI_clamp (by omega)]; exact hs1
  refine ⟨vp_in_nI (by omega) (by decide), by rw [nI_1]; exact vp_in_nI (by omega) (by decide), ?_⟩
  rw [es, es1]
  exact fd_put hI hl h
theorem fd_xstr {post : SX → Prop} {l : List fd_Q} {p : Nat} {o a b c : Int32} (hp : p < 24) (hs : sg p = fd_sig p) (hs1 : sg (p + 1) = fd_sig (p + 1)) (eo : oA p = o) (ea : aA p = a) (eb : bA p = b) (ec : cA p = c) (hI : fd_Is l kO kA kB kC) (hl : l.length + 3 ≤ 200)
    (h : ∀ kO kA kB kC : Nat → Int32, fd_Is (l ++ (o, a, b, c) :: (fd_shd R o a b c ++ [(18, fd_sig p ^^^ fd_sig (p + 1), 0, 0)])) kO kA kB kC → post (nI R, nI C, nI K, nI F, nI (2 * R), nI L, hd, nI (l ++ (o, a, b, c) :: (fd_shd R o a b c ++ [(18, fd_sig p ^^^ fd_sig (p + 1), 0, 0)])).length, fk, fs, fp, fi, fb, st, sd, pl, la, nw, oA, aA, bA, cA, kO, kA, kB, kC, en, sg, ss, oc, ed, os, ce, rg)) : wpX_compileStraight post (nI R, nI C, nI K, nI F, nI (2 * R), nI L, hd, nI l.length, fk, fs, fp, fi, fb, st, sd, pl, la, nw, oA, aA, bA, cA, kO, kA, kB, kC, en, sg, ss, oc, ed, os, ce, rg) (nI p) := by
  have hv : vp_in (nI p) 25 := vp_in_nI (by omega) (by decide)
  have hc : (nI p).toNatClampNeg = p := nI_clamp (by omega)
  refine ⟨hv, nm_r (e' := o) (by rw [hc]; exact eo) ⟨hv, nm_r (e' := a) (by rw [hc]; exact ea) ⟨hv, nm_r (e' := b) (by rw [hc]; exact eb) ⟨hv, nm_r (e' := c) (by rw [hc]; exact ec) ?_⟩⟩⟩⟩
  refine fd_put hI (by omega) fun kO kA kB kC hI => ?_
  have fin : ∀ (q : List fd_Q), fd_shd R o a b c = q → l ++ [(o, a, b, c)] ++ q ++ [(18, fd_sig p ^^^ fd_sig (p + 1), 0, 0)] = l ++ (o, a, b, c) :: (fd_shd R o a b c ++ [(18, fd_sig p ^^^ fd_sig (p + 1), 0, 0)]) := by
    intro q hq
    rw [hq, List.append_assoc, List.append_assoc]
    rfl
  by_cases h1 : o = 1
  · refine br_t h1 (fd_put hI (by rw [fd_len1]; omega) fun kO kA kB kC hI => ?_)
    refine fd_x116 hp hs hs1 hI (by rw [fd_len1, fd_len1]; omega) fun kO kA kB kC hI => ?_
    rw [fin _ (by unfold fd_shd; rw [if_pos h1])] at hI ⊢
    exact h kO kA kB kC hI
  · by_cases h7 : 7 < o
    · by_cases h8 : o = 8
      · refine br_f h1 (br_t h7 (br_t h8 (fd_put hI (by rw [fd_len1]; omega) fun kO kA kB kC hI => ?_)))
        refine fd_x116 hp hs hs1 hI (by rw [fd_len1, fd_len1]; omega) fun kO kA kB kC hI => ?_
        rw [fin _ (by unfold fd_shd; rw [if_neg h1, if_pos h7, if_pos h8])] at hI ⊢
        exact h kO kA kB kC hI
      · refine br_f h1 (br_t h7 (br_f h8 ?_))
        refine fd_x116 hp hs hs1 hI (by rw [fd_len1]; omega) fun kO kA kB kC hI => ?_
        have f2 := fin [] (by unfold fd_shd; rw [if_neg h1, if_pos h7, if_neg h8])
        rw [List.append_nil] at f2
        rw [f2] at hI ⊢
        exact h kO kA kB kC hI
    · refine br_f h1 (br_f h7 (fd_put hI (by rw [fd_len1]; omega) fun kO kA kB kC hI => ?_))
      refine fd_x116 hp hs hs1 hI (by rw [fd_len1, fd_len1]; omega) fun kO kA kB kC hI => ?_
      rw [fin _ (by unfold fd_shd; rw [if_neg h1, if_neg h7])] at hI ⊢
      exact h kO kA kB kC hI
theorem fd_x152 {post : SX → Prop} {l : List fd_Q} {p : Nat} {o a b c : Int32} (hp : p < 25) (ec : cA p = c) (hI : fd_Is l kO kA kB kC) (hl : l.length < 200)
    (h : ∀ kO kA kB kC : Nat → Int32, fd_Is (l ++ [(o, a, b, c)]) kO kA kB kC → post (nI R, nI C, nI K, nI F, nI (2 * R), nI L, hd, nI (l ++ [(o, a, b, c)]).length, fk, fs, fp, fi, fb, st, sd, pl, la, nw, oA, aA, bA, cA, kO, kA, kB, kC, en, sg, ss, oc, ed, os, ce, rg)) : wX_compileBranch_152 post (nI p) o a b (nI R) (nI C) (nI K) (nI F) (nI (2 * R)) (nI L) hd (nI l.length) fk fs fp fi fb st sd pl la nw oA aA bA cA kO kA kB kC en sg ss oc ed os ce rg := by
  have es : cA (nI p).toNatClampNeg = c := by rw [nI_clamp (by omega)]; exact ec
  refine ⟨vp_in_nI (by omega) (by decide), ?_⟩
  rw [es]
  exact fd_put hI hl h
/-! the target, the mask -/
theorem fd_VIo {R T : Nat} {o a b c : Int32} (h : fd_VI R T o a b c) : ∃ k, k ≤ 13 ∧ o = nI k := by
  rcases h with ⟨rfl, _⟩ | ⟨rfl, _⟩ | ⟨k, h2, h7, rfl, _⟩ | ⟨rfl, _⟩ | ⟨rfl, _⟩ | ⟨rfl, _⟩ | ⟨rfl, _⟩ | ⟨rfl, _⟩ | ⟨rfl, _⟩
  · exact ⟨0, by decide, rfl⟩
  · exact ⟨1, by decide, rfl⟩
  · exact ⟨k, by omega, rfl⟩
  · exact ⟨8, by decide, rfl⟩
  · exact ⟨9, by decide, rfl⟩
  · exact ⟨10, by decide, rfl⟩
  · exact ⟨11, by decide, rfl⟩
  · exact ⟨12, by decide, rfl⟩
  · exact ⟨13, by decide, rfl⟩
theorem fd_xtg {post : Int32 → Prop} {p k : Nat} (hp : p < 25) (ho : k ≤ 13) (eo : oA p = nI k) (h : post (fd_tg (oA p) (aA p) (bA p) (cA p))) : wpX_targetOf post (nI R, nI C, nI K, nI F, nI (2 * R), nI L, hd, cl, fk, fs, fp, fi, fb, st, sd, pl, la, nw, oA, aA, bA, cA, kO, kA, kB, kC, en, sg, ss, oc, ed, os, ce, rg) (nI p) := by
  have hv : vp_in (nI p) 25 := vp_in_nI hp (by decide)
  have hc : (nI p).toNatClampNeg = p := nI_clamp (by omega)
  unfold wpX_targetOf
  simp only [hc]
  refine ⟨hv, nm_r eo ?_⟩
  rw [eo] at h
  obtain rfl | rfl | rfl | rfl | rfl | rfl | rfl | rfl | rfl | rfl | rfl | rfl | rfl | rfl := fd_14 ho
  · exact br_t (by decide) h
  · exact br_t (by decide) h
  · exact br_t (by decide) h
  · exact br_t (by decide) h
  · exact br_t (by decide) h
  · exact br_t (by decide) h
  · exact br_t (by decide) h
  · exact br_t (by decide) h
  · exact br_t (by decide) h
  · exact br_t (by decide) h
  · exact br_t (by decide) h
  · exact br_f (by decide) (br_f (by decide) (br_t rfl ⟨hv, h⟩))
  · exact br_f (by decide) (br_f (by decide) (br_f (by decide) (br_t rfl ⟨hv, h⟩)))
  · exact br_f (by decide) (br_f (by decide) (br_f (by decide) (br_f (by decide) (br_t rfl ⟨hv, h⟩))))
theorem fd_xcm {post : Int32 → Prop} {p k : Nat} (hp : p < 25) (ho : k ≤ 13) (eo : oA p = nI k) (h : post (fd_mask (oA p) (aA p) (bA p))) : wpX_comparedAt post (nI R, nI C, nI K, nI F, nI (2 * R), nI L, hd, cl, fk, fs, fp, fi, fb, st, sd, pl, la, nw, oA, aA, bA, cA, kO, kA, kB, kC, en, sg, ss, oc, ed, os, ce, rg) (nI p) := by
  have hv : vp_in (nI p) 25 := vp_in_nI hp (by decide)
  have hc : (nI p).toNatClampNeg = p := nI_clamp (by omega)
  unfold wpX_comparedAt wX_comparedAt_53
  simp only [hc]
  refine ⟨hv, nm_r eo ?_⟩
  rw [eo] at h
  obtain rfl | rfl | rfl | rfl | rfl | rfl | rfl | rfl | rfl | rfl | rfl | rfl | rfl | rfl := fd_14 ho
  · exact br_t (by decide) h
  · exact br_t (by decide) h
  · exact br_t (by decide) h
  · exact br_t (by decide) h
  · exact br_t (by decide) h
  · exact br_t (by decide) h
  · exact br_t (by decide) h
  · exact br_t (by decide) h
  · exact br_f (by decide) (br_f (by decide) (br_t rfl ⟨hv, h⟩))
  · exact br_f (by decide) (br_f (by decide) (br_f (by decide) (br_t rfl ⟨hv, hv, h⟩)))
  · exact br_f (by decide) (br_f (by decide) (br_f (by decide) (br_f (by decide) (br_t rfl ⟨hv, h⟩))))
  · exact br_f (by decide) (br_f (by decide) (br_f (by decide) (br_f (by decide) (br_f (by decide) (br_t rfl h)))))
  · exact br_f (by decide) (br_f (by decide) (br_f (by decide) (br_f (by decide) (br_f (by decide) (br_f (by decide) (br_t rfl ⟨hv, h⟩))))))
  · exact br_f (by decide) (br_f (by decide) (br_f (by decide) (br_f (by decide) (br_f (by decide) (br_f (by decide) (br_f (by decide) (br_t rfl ⟨hv, hv, h⟩)))))))
theorem fd_xbr {post : SX → Prop} {l : List fd_Q} {p k t : Nat} {o a b c : Int32} (hp : p < 24) (hs : sg p = fd_sig p) (hs1 : sg (p + 1) = fd_sig (p + 1)) (ht : t < 25) (hst : sg t = fd_sig t) (eo : oA p = o) (ea : aA p = a) (eb : bA p = b) (ec : cA p = c) (hk : k ≤ 13) (ek : o = nI k) (et : fd_tg o a b c = nI t) (hI : fd_Is l kO kA kB kC) (hl : l.length + 3 ≤ 200)
    (h : ∀ kO kA kB kC : Nat → Int32, fd_Is (l ++ (18, (if o = 11 then fd_sig p ^^^ fd_sig (fd_tg o a b c).toNatClampNeg else fd_sig p ^^^ fd_sig (p + 1)), 0, 0) :: (fd_brn R p o a b c ++ [(o, a, b, c)])) kO kA kB kC → post (nI R, nI C, nI K, nI F, nI (2 * R), nI L, hd, nI (l ++ (18, (if o = 11 then fd_sig p ^^^ fd_sig (fd_tg o a b c).toNatClampNeg else fd_sig p ^^^ fd_sig (p + 1)), 0, 0) :: (fd_brn R p o a b c ++ [(o, a, b, c)])).length, fk, fs, fp, fi, fb, st, sd, pl, la, nw, oA, aA, bA, cA, kO, kA, kB, kC, en, sg, ss, oc, ed, os, ce, rg)) : wpX_compileBranch post (nI R, nI C, nI K, nI F, nI (2 * R), nI L, hd, nI l.length, fk, fs, fp, fi, fb, st, sd, pl, la, nw, oA, aA, bA, cA, kO, kA, kB, kC, en, sg, ss, oc, ed, os, ce, rg) (nI p) := by
  have hv : vp_in (nI p) 25 := vp_in_nI (by omega) (by decide)
  have hc : (nI p).toNatClampNeg = p := nI_clamp (by omega)
  have hv1 : vp_in (nI p + 1) 25 := by rw [nI_1]; exact vp_in_nI (by omega) (by decide)
  have hvt : vp_in (nI t) 25 := vp_in_nI ht (by decide)
  have es : sg (nI p).toNatClampNeg = fd_sig p := by rw [nI_clamp (by omega)]; exact hs
  have es1 : sg (nI p + 1).toNatClampNeg = fd_sig (p + 1) := by rw [nI_1, nI_clamp (by omega)]; exact hs1
  have est : sg (nI t).toNatClampNeg = fd_sig t := by rw [nI_clamp (by omega)]; exact hst
  have etc : (fd_tg o a b c).toNatClampNeg = t := by rw [et, nI_clamp (by omega)]
  rw [etc] at h
  refine ⟨hv, nm_r (e' := o) (by rw [hc]; exact eo) ⟨hv, nm_r (e' := a) (by rw [hc]; exact ea) ⟨hv, nm_r (e' := b) (by rw [hc]; exact eb) ?_⟩⟩⟩
  refine fd_xtg (k := k) (by omega) hk (eo.trans ek) ?_
  rw [eo, ea, eb, ec, et]
  refine ⟨hv1, hvt, nm_r (e' := fd_sig (p + 1) ^^^ fd_sig t) (by rw [es1, est]) ?_⟩
  rw [es, es1, est]
  have fin : ∀ (q : List fd_Q) (z : Int32), (if o = 11 then fd_sig p ^^^ fd_sig t else fd_sig p ^^^ fd_sig (p + 1)) = z → fd_brn R p o a b c = q → l ++ [(18, z, 0, 0)] ++ q ++ [(o, a, b, c)] = l ++ (18, (if o = 11 then fd_sig p ^^^ fd_sig t else fd_sig p ^^^ fd_sig (p + 1)), 0, 0) :: (fd_brn R p o a b c ++ [(o, a, b, c)]) := by
    intro q z hz hq
    rw [hq, hz, List.append_assoc, List.append_assoc]
    rfl
  have rest : ∀ (z : Int32) (kO kA kB kC : Nat → Int32), (if o = 11 then fd_sig p ^^^ fd_sig t else fd_sig p ^^^ fd_sig (p + 1)) = z → fd_Is (l ++ [(18, z, 0, 0)]) kO kA kB kC → wX_compileBranch_101 post (nI p) o a b (fd_sig (p + 1) ^^^ fd_sig t) (nI R) (nI C) (nI K) (nI F) (nI (2 * R)) (nI L) hd (nI (l ++ [(18, z, 0, 0)]).length) fk fs fp fi fb st sd pl la nw oA aA bA cA kO kA kB kC en sg ss oc ed os ce rg := by
    intro z kO kA kB kC hz hI
    by_cases h12 : o = 12
    · refine br_t h12 (fd_put hI (by rw [fd_len1]; omega) fun kO kA kB kC hI => ?_)
      refine fd_x152 (by omega) ec hI (by rw [fd_len1, fd_len1]; omega) fun kO kA kB kC hI => ?_
      rw [fin _ z hz (by unfold fd_brn; rw [if_pos h12, etc])] at hI ⊢
      exact h kO kA kB kC hI
    · by_cases h13 : o = 13
      · refine br_f h12 (br_t h13 (fd_put hI (by rw [fd_len1]; omega) fun kO kA kB kC hI => ?_))
        refine fd_x152 (by omega) ec hI (by rw [fd_len1, fd_len1]; omega) fun kO kA kB kC hI => ?_
        rw [fin _ z hz (by unfold fd_brn; rw [if_neg h12, if_pos h13, etc])] at hI ⊢
        exact h kO kA kB kC hI
      · refine br_f h12 (br_f h13 ?_)
        refine fd_x152 (by omega) ec hI (by rw [fd_len1]; omega) fun kO kA kB kC hI => ?_
        have f2 := fin [] z hz (by unfold fd_brn; rw [if_neg h12, if_neg h13])
        rw [List.append_nil] at f2
        rw [f2] at hI ⊢
        exact h kO kA kB kC hI
  by_cases h11 : o = 11
  · refine br_t h11 ⟨hv, hvt, ?_⟩
    exact fd_put hI (by omega) fun kO kA kB kC hI => rest _ kO kA kB kC (if_pos h11) hI
  · refine br_f h11 ⟨hv, hv1, ?_⟩
    exact fd_put hI (by omega) fun kO kA kB kC hI => rest _ kO kA kB kC (if_neg h11) hI
/-- one place's code -/
theorem fd_VItg {T : Nat} {o a b c : Int32} (h : fd_VI R T o a b c) : ∃ t, t ≤ T ∧ fd_tg o a b c = nI t := by
  rcases h with ⟨rfl, rfl, rfl, rfl⟩ | ⟨rfl, x, _, rfl, rfl⟩ | ⟨k, h2, h7, rfl, _⟩ | ⟨rfl, _⟩ | ⟨rfl, _⟩ | ⟨rfl, _⟩ | ⟨rfl, t, ht, rfl, _⟩ | ⟨rfl, x, t, _, ht, _, rfl, _⟩ | ⟨rfl, x, y, t, _, _, ht, _, _, rfl⟩
  · exact ⟨0, Nat.zero_le _, rfl⟩
  · exact ⟨0, Nat.zero_le _, rfl⟩
  · refine ⟨0, Nat.zero_le _, ?_⟩
    obtain rfl | rfl | rfl | rfl | rfl | rfl : k = 2 ∨ k = 3 ∨ k = 4 ∨ k = 5 ∨ k = 6 ∨ k = 7 := by omega
    all_goals rfl
  · exact ⟨0, Nat.zero_le _, rfl⟩
  · exact ⟨0, Nat.zero_le _, rfl⟩
  · exact ⟨0, Nat.zero_le _, rfl⟩
  · exact ⟨t, ht, rfl⟩
  · exact ⟨t, ht, rfl⟩
  · exact ⟨t, ht, rfl⟩
theorem fd_xplace {post : SX → Prop} {l : List fd_Q} {p : Nat} (hR8 : R ≤ 8) (hL : L ≤ 24) (hpL : p ≤ L) (hV : fd_VI R L (oA p) (aA p) (bA p) (cA p)) (hz : p = L → oA p = 0) (hsg : ∀ q, q ≤ L → sg q = fd_sig q) (hI : fd_Is l kO kA kB kC) (hl : l.length + 8 ≤ 200)
    (h : ∀ kO kA kB kC : Nat → Int32, fd_Is (l ++ fd_code R p (oA p) (aA p) (bA p) (cA p)) kO kA kB kC → post (nI R, nI C, nI K, nI F, nI (2 * R), nI L, hd, nI (l ++ fd_code R p (oA p) (aA p) (bA p) (cA p)).length, fk, fs, fp, fi, fb, st, sd, pl, la, nw, oA, aA, bA, cA, kO, kA, kB, kC, en, sg, ss, oc, ed, os, ce, rg)) : wpX_compilePlace post (nI R, nI C, nI K, nI F, nI (2 * R), nI L, hd, nI l.length, fk, fs, fp, fi, fb, st, sd, pl, la, nw, oA, aA, bA, cA, kO, kA, kB, kC, en, sg, ss, oc, ed, os, ce, rg) (nI p) := by
  obtain ⟨k, hk, ek⟩ := fd_VIo hV
  obtain ⟨t, ht, et⟩ := fd_VItg hV
  have hcl := fd_ckl hR8 hV
  have hp : p < 25 := by omega
  refine ⟨vp_in_nI hp (by decide), nm_r (e' := oA p) (by rw [nI_clamp (by omega)]) ?_⟩
  refine fd_xcm hp hk ek ?_
  refine fd_put hI (by omega) fun kO kA kB kC hI => ?_
  -- behind the second window
  have z53 : ∀ (m' : Int32) (q : List fd_Q) (kO kA kB kC : Nat → Int32), (if 10 < oA p then 0 else fd_mask (oA p) (aA p) (bA p)) = m' → fd_chk R p (oA p) (aA p) (bA p) = q → (l ++ [(16, 0, 0, 0)] ++ q).length + 4 ≤ 200 → fd_Is (l ++ [(16, 0, 0, 0)] ++ q) kO kA kB kC → wX_compilePlace_53 post (nI p) (oA p) m' 1 16 (nI R) (nI C) (nI K) (nI F) (nI (2 * R)) (nI L) hd (nI (l ++ [(16, 0, 0, 0)] ++ q).length) fk fs fp fi fb st sd pl la nw oA aA bA cA kO kA kB kC en sg ss oc ed os ce rg := by
    intro m' q kO kA kB kC hm hq hql hI
    have e : ∀ T : List fd_Q, fd_tail R p (oA p) (aA p) (bA p) (cA p) = T → l ++ [(16, 0, 0, 0)] ++ q ++ [(16, 1, m', 0)] ++ T = l ++ fd_code R p (oA p) (aA p) (bA p) (cA p) := by
      intro T hT
      unfold fd_code
      rw [hm, hq, hT, List.append_assoc, List.append_assoc, List.append_assoc]
      rfl
    unfold wX_compilePlace_53
    refine fd_put hI (by omega) fun kO kA kB kC hI => ?_
    by_cases h0 : oA p = 0
    · refine br_t h0 (fd_put hI (by rw [fd_len1]; omega) fun kO kA kB kC hI => ?_)
      rw [e _ (by unfold fd_tail; rw [if_pos h0])] at hI ⊢
      exact h kO kA kB kC hI
    · have hpl : p < L := by
        have : p ≠ L := fun z => h0 (hz z)
        omega
      by_cases h10 : 10 < oA p
      · refine br_f h0 (br_t h10 (fd_xbr (k := k) (t := t) (by omega) (hsg p hpL) (hsg (p + 1) (by omega)) (by omega) (hsg t ht) rfl rfl rfl rfl hk ek et hI (by rw [fd_len1]; omega) fun kO kA kB kC hI => ?_))
        rw [e _ (by unfold fd_tail; rw [if_neg h0, if_pos h10])] at hI ⊢
        exact h kO kA kB kC hI
      · refine br_f h0 (br_f h10 (fd_xstr (by omega) (hsg p hpL) (hsg (p + 1) (by omega)) rfl rfl rfl rfl hI (by rw [fd_len1]; omega) fun kO kA kB kC hI => ?_))
        rw [e _ (by unfold fd_tail; rw [if_neg h0, if_neg h10])] at hI ⊢
        exact h kO kA kB kC hI
  have z38 : ∀ (q : List fd_Q) (kO kA kB kC : Nat → Int32), fd_chk R p (oA p) (aA p) (bA p) = q → (l ++ [(16, 0, 0, 0)] ++ q).length + 4 ≤ 200 → fd_Is (l ++ [(16, 0, 0, 0)] ++ q) kO kA kB kC → wX_compilePlace_38 post (nI p) (oA p) (fd_mask (oA p) (aA p) (bA p)) (nI R) (nI C) (nI K) (nI F) (nI (2 * R)) (nI L) hd (nI (l ++ [(16, 0, 0, 0)] ++ q).length) fk fs fp fi fb st sd pl la nw oA aA bA cA kO kA kB kC en sg ss oc ed os ce rg := by
    intro q kO kA kB kC hq hql hI
    by_cases h10 : 10 < oA p
    · exact br_t h10 (z53 0 q kO kA kB kC (if_pos h10) hq hql hI)
    · exact br_f h10 (z53 _ q kO kA kB kC (if_neg h10) hq hql hI)
  have z32 : (oA p = 0 ∨ ¬ oA p < 8) → wX_compilePlace_32 post (nI p) (oA p) (fd_mask (oA p) (aA p) (bA p)) (nI R) (nI C) (nI K) (nI F) (nI (2 * R)) (nI L) hd (nI (l ++ [(16, 0, 0, 0)]).length) fk fs fp fi fb st sd pl la nw oA aA bA cA kO kA kB kC en sg ss oc ed os ce rg := by
    intro hq
    unfold wX_compilePlace_32
    refine fd_xchks hR8 hp (hsg p hpL) hI (by rw [fd_len1]; omega) fun kO kA kB kC hI => ?_
    refine z38 _ kO kA kB kC (by unfold fd_chk; rw [if_pos hq]) ?_ hI
    rw [List.length_append, fd_len1, List.length_cons]
    omega
  by_cases h0 : oA p = 0
  · exact br_t h0 (z32 (Or.inl h0))
  · by_cases h8 : oA p < 8
    · have e0 : l ++ [(16, 0, 0, 0)] ++ [] = l ++ [((16, 0, 0, 0) : fd_Q)] := List.append_nil _
      have z := z38 [] kO kA kB kC (by unfold fd_chk; rw [if_neg]; exact fun z => z.elim h0 fun z => z h8)
      rw [e0] at z
      exact br_f h0 (br_t h8 (z (by rw [fd_len1]; omega) hI))
    · exact br_f h0 (br_f h8 (z32 (Or.inr h8)))
theorem fd_codel {T p : Nat} {o a b c : Int32} (hR8 : R ≤ 8) (hV : fd_VI R T o a b c) : (fd_code R p o a b c).length ≤ 8 := by
  have hcl := fd_ckl hR8 hV
  have h1 : (fd_chk R p o a b).length ≤ 3 := by
    unfold fd_chk
    split
    · rw [List.length_cons]; omega
    · exact Nat.zero_le _
  have hb : (fd_brn R p o a b c).length ≤ 1 := by
    unfold fd_brn
    split
    · exact Nat.le_refl 1
    · split
      · exact Nat.le_refl 1
      · exact Nat.zero_le 1
  have hs : (fd_shd R o a b c).length ≤ 1 := by
    unfold fd_shd
    split
    · exact Nat.le_refl 1
    · split
      · split
        · exact Nat.le_refl 1
        · exact Nat.zero_le 1
      · exact Nat.le_refl 1
  have h2 : (fd_tail R p o a b c).length ≤ 3 := by
    unfold fd_tail
    by_cases h0 : o = 0
    · rw [if_pos h0]; decide
    · rw [if_neg h0]
      by_cases h10 : 10 < o
      · rw [if_pos h10, List.length_cons, fd_len1]; omega
      · rw [if_neg h10, List.length_cons, fd_len1]; omega
  unfold fd_code
  rw [List.length_cons, List.length_append, List.length_cons]
  omega
theorem fd_alll {T : Nat} (hR8 : R ≤ 8) (hV : ∀ p, p < 25 → fd_VI R T (oA p) (aA p) (bA p) (cA p)) : ∀ p, p ≤ 25 → (fd_all R oA aA bA cA p).length ≤ 8 * p := by
  intro p
  induction p with
  | zero => intro _; exact Nat.zero_le _
  | succ p ih =>
    intro hp
    have z := fd_codel (p := p) hR8 (hV p (by omega))
    have y := ih (by omega)
    show (fd_all R oA aA bA cA p ++ fd_code R p (oA p) (aA p) (bA p) (cA p)).length ≤ _
    rw [List.length_append]
    omega
theorem fd_xc35 {post : SX → Prop} (hR8 : R ≤ 8) (hL : L ≤ 24) (hV : ∀ p, p < 25 → fd_VI R L (oA p) (aA p) (bA p) (cA p)) (hz : oA L = 0) (hsg : ∀ q, q ≤ L → sg q = fd_sig q)
    (h : ∀ (cl : Int32) (kO kA kB kC en : Nat → Int32), fd_Is (fd_all R oA aA bA cA (L + 1)) kO kA kB kC → (∀ q, q ≤ L + 1 → en q = nI (fd_all R oA aA bA cA q).length) → post (nI R, nI C, nI K, nI F, nI (2 * R), nI L, hd, cl, fk, fs, fp, fi, fb, st, sd, pl, la, nw, oA, aA, bA, cA, kO, kA, kB, kC, en, sg, ss, oc, ed, os, ce, rg)) :
    ∀ (d p n : Nat) (kO kA kB kC en : Nat → Int32), p + d = L + 1 → d < n → fd_Is (fd_all R oA aA bA cA p) kO kA kB kC → (∀ q, q < p → en q = nI (fd_all R oA aA bA cA q).length) → wX_compile_35 post n (nI p) (nI R) (nI C) (nI K) (nI F) (nI (2 * R)) (nI L) hd (nI (fd_all R oA aA bA cA p).length) fk fs fp fi fb st sd pl la nw oA aA bA cA kO kA kB kC en sg ss oc ed os ce rg := by
  intro d
  induction d with
  | zero =>
    intro p n kO kA kB kC en hp hn hI he
    obtain ⟨n, rfl, hm⟩ := fd_suc hn
    obtain rfl : p = L + 1 := by omega
    refine br_t (nI_lt (by omega) (by omega)) ⟨by rw [nI_1]; exact vp_in_nI (by omega) (by decide), fun y ey => ?_⟩
    rw [nI_1, nI_clamp (by omega)] at ey
    refine h _ kO kA kB kC y hI fun q hq => ?_
    rw [ey]
    by_cases e : q = L + 1
    · rw [e, pk_us]
    · rw [pk_un e]; exact he q (by omega)
  | succ d ih =>
    intro p n kO kA kB kC en hp hn hI he
    obtain ⟨n, rfl, hm⟩ := fd_suc hn
    refine br_f (nI_nlt (by omega) (by omega)) ⟨vp_in_nI (by omega) (by decide), fun y ey => ?_⟩
    rw [nI_clamp (by omega)] at ey
    have hlen := fd_alll hR8 hV p (by omega)
    refine fd_xplace hR8 hL (by omega) (hV p (by omega)) (fun z => by rw [z]; exact hz) hsg hI (by omega) fun kO kA kB kC hI => ?_
    refine nm_r (nI_1 p) ?_
    refine ih (p + 1) n kO kA kB kC y (by omega) (by omega) hI fun q hq => ?_
    rw [ey]
    by_cases e : q = p
    · rw [e, pk_us]
    · rw [pk_un e]; exact he q (by omega)
theorem fd_xc2l {post : SX → Prop} (hR8 : R ≤ 8) (hL : L ≤ 24) (hV : ∀ p, p < 25 → fd_VI R L (oA p) (aA p) (bA p) (cA p)) (hz : oA L = 0)
    (h : ∀ (cl : Int32) (kO kA kB kC en sg : Nat → Int32), fd_Is (fd_all R oA aA bA cA (L + 1)) kO kA kB kC → (∀ q, q ≤ L + 1 → en q = nI (fd_all R oA aA bA cA q).length) → (∀ q, q ≤ L → sg q = fd_sig q) → post (nI R, nI C, nI K, nI F, nI (2 * R), nI L, hd, cl, fk, fs, fp, fi, fb, st, sd, pl, la, nw, oA, aA, bA, cA, kO, kA, kB, kC, en, sg, ss, oc, ed, os, ce, rg)) :
    ∀ (d p n : Nat) (sg : Nat → Int32), p + d = L + 1 → d < n → (∀ q, q < p → sg q = fd_sig q) → wX_compile_2 post (nI R) (nI C) (nI K) (nI F) (nI (2 * R)) (nI L) hd cl fk fs fp fi fb st sd pl la nw n (nI p) oA aA bA cA kO kA kB kC en sg ss oc ed os ce rg := by
  intro d
  induction d with
  | zero =>
    intro p n sg hp hn hs
    obtain ⟨n, rfl, hm⟩ := fd_suc hn
    obtain rfl : p = L + 1 := by omega
    refine br_t (nI_lt (by omega) (by omega)) ⟨L + 2, ?_⟩
    exact fd_xc35 hR8 hL hV hz (fun q hq => hs q (by omega)) (fun cl kO kA kB kC en hI he => h cl kO kA kB kC en sg hI he fun q hq => hs q (by omega)) (L + 1) 0 (L + 2) kO kA kB kC en (by omega) (by omega) (fun j hj => absurd hj (Nat.not_lt_zero j)) (fun q hq => absurd hq (by omega))
  | succ d ih =>
    intro p n sg hp hn hs
    obtain ⟨n, rfl, hm⟩ := fd_suc hn
    refine br_f (nI_nlt (by omega) (by omega)) ⟨vp_in_nI (by omega) (by decide), fun y ey => nm_r (nI_1 p) ?_⟩
    rw [nI_clamp (by omega)] at ey
    refine ih (p + 1) n y (by omega) (by omega) fun q hq => ?_
    rw [ey]
    by_cases e : q = p
    · rw [e, pk_us]; rfl
    · rw [pk_un e]; exact hs q (by omega)
theorem fd_xcompile {post : SX → Prop} (hR8 : R ≤ 8) (hL : L ≤ 24) (hV : ∀ p, p < 25 → fd_VI R L (oA p) (aA p) (bA p) (cA p)) (hz : oA L = 0)
    (h : ∀ (cl : Int32) (kO kA kB kC en sg : Nat → Int32), fd_Is (fd_all R oA aA bA cA (L + 1)) kO kA kB kC → (∀ q, q ≤ L + 1 → en q = nI (fd_all R oA aA bA cA q).length) → (∀ q, q ≤ L → sg q = fd_sig q) → post (nI R, nI C, nI K, nI F, nI (2 * R), nI L, hd, cl, fk, fs, fp, fi, fb, st, sd, pl, la, nw, oA, aA, bA, cA, kO, kA, kB, kC, en, sg, ss, oc, ed, os, ce, rg)) : wpX_compile post (nI R, nI C, nI K, nI F, nI (2 * R), nI L, hd, cl, fk, fs, fp, fi, fb, st, sd, pl, la, nw, oA, aA, bA, cA, kO, kA, kB, kC, en, sg, ss, oc, ed, os, ce, rg) :=
  ⟨L + 2, fd_xc2l hR8 hL hV hz h (L + 1) 0 (L + 2) sg (by omega) (by omega) fun q hq => absurd hq (by omega)⟩
end
section
variable {R C K F L : Nat} {hd cl fk fs fp fi fb st sd pl la nw fl : Int32} {oA aA bA cA kO kA kB kC en sg ss oc ed os ce rg pg re : Nat → Int32}
theorem fd_first (P : Nat → Prop) : ∀ n : Nat, (∀ p, p < n → P p) ∨ ∃ q, q < n ∧ ¬ P q ∧ ∀ p, p < q → P p := by
  intro n
  induction n with
  | zero => exact Or.inl fun p hp => absurd hp (by omega)
  | succ n ih =>
    rcases ih with h | ⟨q, hq, h1, h2⟩
    · by_cases hn : P n
      · refine Or.inl fun p hp => ?_
        by_cases e : p = n
        · rw [e]; exact hn
        · exact h p (by omega)
      · exact Or.inr ⟨n, by omega, hn, h⟩
    · exact Or.inr ⟨q, by omega, h1, h2⟩
theorem fd_VIL {o a b c : Int32} (hK : K ≤ 24) (hL : L ≤ K) (h : fd_VI R K o a b c) (ht : fd_tg o a b c ≤ nI L) : fd_VI R L o a b c := by
  rcases h with h | h | h | h | h | h | ⟨rfl, t, h1, rfl, h2⟩ | ⟨rfl, x, t, hx, h1, e1, rfl, h2⟩ | ⟨rfl, x, y, t, hx, hy, h1, e1, e2, rfl⟩
  · exact Or.inl h
  · exact Or.inr (Or.inl h)
  · exact Or.inr (Or.inr (Or.inl h))
  · exact Or.inr (Or.inr (Or.inr (Or.inl h)))
  · exact Or.inr (Or.inr (Or.inr (Or.inr (Or.inl h))))
  · exact Or.inr (Or.inr (Or.inr (Or.inr (Or.inr (Or.inl h)))))
  · have z : nI t ≤ nI L := ht
    rw [nI_leI (by omega) (by omega)] at z
    exact Or.inr (Or.inr (Or.inr (Or.inr (Or.inr (Or.inr (Or.inl ⟨rfl, t, z, rfl, h2⟩))))))
  · have z : nI t ≤ nI L := ht
    rw [nI_leI (by omega) (by omega)] at z
    exact Or.inr (Or.inr (Or.inr (Or.inr (Or.inr (Or.inr (Or.inr (Or.inl ⟨rfl, x, t, hx, z, e1, rfl, h2⟩)))))))
  · have z : nI t ≤ nI L := ht
    rw [nI_leI (by omega) (by omega)] at z
    exact Or.inr (Or.inr (Or.inr (Or.inr (Or.inr (Or.inr (Or.inr (Or.inr ⟨rfl, x, y, t, hx, hy, z, e1, e2, rfl⟩)))))))
theorem fd_kd2 : ∀ (o : Fin 14) (k : Fin 4), 1 ≤ k.val → fd_kd k.val o.val = 2 → (k.val = 1 ∧ o.val = 11) ∨ (k.val = 2 ∧ o.val = 12) ∨ (k.val = 3 ∧ o.val = 13) := by decide +kernel
theorem fd_xh1 {post : Int32 → SX → Prop} (hK : K ≤ 24) (hL : L ≤ K) (hV : ∀ p, p < 25 → fd_VI R K (oA p) (aA p) (bA p) (cA p)) {q : Nat} (hq : q ≤ L) (hg : ∀ p, p < q → fd_tg (oA p) (aA p) (bA p) (cA p) ≤ nI L) (h : ∀ n, wX_harden_21 post (nI R) (nI C) (nI K) (nI F) (nI (2 * R)) (nI L) hd cl fk fs fp fi fb st sd pl la nw oA aA bA cA kO kA kB kC en sg ss oc ed os ce rg (n + 1) (nI q)) : ∀ (d j n : Nat), j + d = q → d < n → wX_harden_21 post (nI R) (nI C) (nI K) (nI F) (nI (2 * R)) (nI L) hd cl fk fs fp fi fb st sd pl la nw oA aA bA cA kO kA kB kC en sg ss oc ed os ce rg n (nI j) := by
  intro d
  induction d with
  | zero =>
    intro j n hj hn
    obtain ⟨n, rfl, hm⟩ := fd_suc hn
    obtain rfl : j = q := by omega
    exact h n
  | succ d ih =>
    intro j n hj hn
    obtain ⟨n, rfl, hm⟩ := fd_suc hn
    obtain ⟨k, hk, ek⟩ := fd_VIo (hV j (by omega))
    refine br_f (nI_ge (by omega) (by omega)) (fd_xtg (by omega) hk ek ?_)
    exact br_t (hg j (by omega)) (nm_r (nI_1 j) (ih (j + 1) n (by omega) (by omega)))
theorem fd_yhs {post : Int32 → SY → Prop} {J : Int32 → Prop} {p k o n : Nat} (hp : p < L) (hL : L ≤ 24) (ho : o ≤ 13) (eo : pg (4 * p) = nI o) (h1 : 1 ≤ k) (h3 : k ≤ 3)
    (hg : fd_kd k o = 2 → pg (4 * p + k) ≤ nI L) (h : wY_harden_31 post J (nI p) (nI R) (nI C) (nI K) (nI F) (nI L) st fk fs fp fi fb hd fl pg ce os oc ss ed re n (nI (k + 1))) : wY_harden_31 post J (nI p) (nI R) (nI C) (nI K) (nI F) (nI L) st fk fs fp fi fb hd fl pg ce os oc ss ed re (n + 1) (nI k) := by
  have e4 : (4 * nI p).toNatClampNeg = 4 * p := by rw [fd_4m]; exact nI_clamp (by omega)
  have ek : (4 * nI p + nI k).toNatClampNeg = 4 * p + k := by rw [fd_4mk]; exact nI_clamp (by omega)
  refine br_f (nI_nlt (b := k) (a := 3) (by omega) (by decide)) ⟨by rw [fd_4m]; exact vp_in_nI (by omega) (by decide), ?_⟩
  rw [e4, eo]
  refine fd_yuse ho h1 h3 ?_
  by_cases h2 : fd_kd k o = 2
  · refine br_t h2 ⟨by rw [fd_4mk]; exact vp_in_nI (by omega) (by decide), ?_⟩
    rw [ek]
    exact br_t (hg h2) (nm_r (nI_1 k) h)
  · exact br_f h2 (nm_r (nI_1 k) h)
theorem fd_yhb {post : Int32 → SY → Prop} {J : Int32 → Prop} {p k o n : Nat} (hp : p < L) (hL : L ≤ 24) (ho : o ≤ 13) (eo : pg (4 * p) = nI o) (h1 : 1 ≤ k) (h3 : k ≤ 3)
    (h2 : fd_kd k o = 2) (hg : ¬ pg (4 * p + k) ≤ nI L) (h : post (-5) (nI R, nI C, nI K, nI F, nI L, st, fk, fs, fp, fi, fb, hd, fl, pg, ce, os, oc, ss, ed, re)) : wY_harden_31 post J (nI p) (nI R) (nI C) (nI K) (nI F) (nI L) st fk fs fp fi fb hd fl pg ce os oc ss ed re (n + 1) (nI k) := by
  have e4 : (4 * nI p).toNatClampNeg = 4 * p := by rw [fd_4m]; exact nI_clamp (by omega)
  have ek : (4 * nI p + nI k).toNatClampNeg = 4 * p + k := by rw [fd_4mk]; exact nI_clamp (by omega)
  refine br_f (nI_nlt (b := k) (a := 3) (by omega) (by decide)) ⟨by rw [fd_4m]; exact vp_in_nI (by omega) (by decide), ?_⟩
  rw [e4, eo]
  refine fd_yuse ho h1 h3 ?_
  refine br_t h2 ⟨by rw [fd_4mk]; exact vp_in_nI (by omega) (by decide), ?_⟩
  rw [ek]
  exact br_f hg h
theorem fd_tg0 {o a b c : Int32} {k : Nat} (hk : k ≤ 13) (h : k ≠ 11) (h' : k ≠ 12) (h'' : k ≠ 13) (ho : o = nI k) : fd_tg o a b c = 0 := by
  subst ho
  unfold fd_tg
  rw [if_neg, if_neg, if_neg]
  · exact fun z => h'' ((nI_eq (b := 13) (by omega) (by decide)).mp z)
  · exact fun z => h' ((nI_eq (b := 12) (by omega) (by decide)).mp z)
  · exact fun z => h ((nI_eq (b := 11) (by omega) (by decide)).mp z)
theorem fd_yhg {post : Int32 → SY → Prop} {J : Int32 → Prop} {p o : Nat} (hp : p < L) (hL : L ≤ 24) (ho : o ≤ 13) (eo : oA p = nI o) (e4 : pg (4 * p) = oA p ∧ pg (4 * p + 1) = aA p ∧ pg (4 * p + 2) = bA p ∧ pg (4 * p + 3) = cA p)
    (hg : fd_tg (oA p) (aA p) (bA p) (cA p) ≤ nI L) (h : J (nI (p + 1))) : wY_harden_31 post J (nI p) (nI R) (nI C) (nI K) (nI F) (nI L) st fk fs fp fi fb hd fl pg ce os oc ss ed re 4 (nI 1) := by
  have e0 : pg (4 * p) = nI o := e4.1.trans eo
  rw [eo] at hg
  have hk : ∀ k, 1 ≤ k → k ≤ 3 → fd_kd k o = 2 → pg (4 * p + k) ≤ nI L := by
    intro k h1 h3 h2
    rcases fd_kd2 ⟨o, by omega⟩ ⟨k, by omega⟩ h1 h2 with ⟨z1, z2⟩ | ⟨z1, z2⟩ | ⟨z1, z2⟩
    · have z1 : k = 1 := z1
      have z2 : o = 11 := z2
      subst z1 z2
      rw [e4.2.1]; exact hg
    · have z1 : k = 2 := z1
      have z2 : o = 12 := z2
      subst z1 z2
      rw [e4.2.2.1]; exact hg
    · have z1 : k = 3 := z1
      have z2 : o = 13 := z2
      subst z1 z2
      rw [e4.2.2.2]; exact hg
  refine fd_yhs hp hL ho e0 (by decide) (by decide) (hk 1 (by decide) (by decide)) ?_
  refine fd_yhs hp hL ho e0 (by decide) (by decide) (hk 2 (by decide) (by decide)) ?_
  refine fd_yhs hp hL ho e0 (by decide) (by decide) (hk 3 (by decide) (by decide)) ?_
  exact br_t (by decide) (nm_r (nI_1 p) h)
theorem fd_yhbad {post : Int32 → SY → Prop} {J : Int32 → Prop} {p o : Nat} (hp : p < L) (hL : L ≤ 24) (ho : o ≤ 13) (eo : oA p = nI o) (e4 : pg (4 * p) = oA p ∧ pg (4 * p + 1) = aA p ∧ pg (4 * p + 2) = bA p ∧ pg (4 * p + 3) = cA p)
    (hg : ¬ fd_tg (oA p) (aA p) (bA p) (cA p) ≤ nI L) (h : post (-5) (nI R, nI C, nI K, nI F, nI L, st, fk, fs, fp, fi, fb, hd, fl, pg, ce, os, oc, ss, ed, re)) : wY_harden_31 post J (nI p) (nI R) (nI C) (nI K) (nI F) (nI L) st fk fs fp fi fb hd fl pg ce os oc ss ed re 4 (nI 1) := by
  have e0 : pg (4 * p) = nI o := e4.1.trans eo
  by_cases h11 : o = 11
  · subst h11
    rw [eo] at hg
    exact fd_yhb hp hL ho e0 (by decide) (by decide) (by decide) (by rw [e4.2.1]; exact hg) h
  · by_cases h12 : o = 12
    · subst h12
      rw [eo] at hg
      refine fd_yhs hp hL ho e0 (by decide) (by decide) (fun z => absurd z (by decide)) ?_
      exact fd_yhb hp hL ho e0 (by decide) (by decide) (by decide) (by rw [e4.2.2.1]; exact hg) h
    · by_cases h13 : o = 13
      · subst h13
        rw [eo] at hg
        refine fd_yhs hp hL ho e0 (by decide) (by decide) (fun z => absurd z (by decide)) ?_
        refine fd_yhs hp hL ho e0 (by decide) (by decide) (fun z => absurd z (by decide)) ?_
        exact fd_yhb hp hL ho e0 (by decide) (by decide) (by decide) (by rw [e4.2.2.2]; exact hg) h
      · rw [fd_tg0 ho h11 h12 h13 eo] at hg
        exact absurd (nI_pos' (by omega)) hg
theorem fd_yh1 {post : Int32 → SY → Prop} (hL : L ≤ 24) (hV : ∀ p, p < 25 → fd_VI R K (oA p) (aA p) (bA p) (cA p)) (hpg : ∀ p, p < L → pg (4 * p) = oA p ∧ pg (4 * p + 1) = aA p ∧ pg (4 * p + 2) = bA p ∧ pg (4 * p + 3) = cA p) {q : Nat} (hq : q ≤ L) (hg : ∀ p, p < q → fd_tg (oA p) (aA p) (bA p) (cA p) ≤ nI L) (h : ∀ n, wY_harden_21 post (nI R) (nI C) (nI K) (nI F) (nI L) st fk fs fp fi fb hd fl pg ce os oc ss ed re (n + 1) (nI q)) : ∀ (d j n : Nat), j + d = q → d < n → wY_harden_21 post (nI R) (nI C) (nI K) (nI F) (nI L) st fk fs fp fi fb hd fl pg ce os oc ss ed re n (nI j) := by
  intro d
  induction d with
  | zero =>
    intro j n hj hn
    obtain ⟨n, rfl, hm⟩ := fd_suc hn
    obtain rfl : j = q := by omega
    exact h n
  | succ d ih =>
    intro j n hj hn
    obtain ⟨n, rfl, hm⟩ := fd_suc hn
    obtain ⟨k, hk, ek⟩ := fd_VIo (hV j (by omega))
    exact br_f (nI_ge (by omega) (by omega)) ⟨4, fd_yhg (by omega) hL hk ek (hpg j (by omega)) (hg j (by omega)) (ih (j + 1) n (by omega) (by omega))⟩
theorem fd_vharden {k : Nat} (h : fd_F R C K F L hd fk fi fb oA aA bA cA kO kA kB kC en sg oc pg) : wpX_harden (fun r u' => wpY_harden (fun r' v' => r' = r ∧ i_Rel (k + 5) u' v') (nI R, nI C, nI K, nI F, nI L, st, fk, fs, fp, fi, fb, hd, fl, pg, ce, os, oc, ss, ed, re)) (nI R, nI C, nI K, nI F, nI (2 * R), nI L, hd, cl, fk, fs, fp, fi, fb, st, sd, pl, la, nw, oA, aA, bA, cA, kO, kA, kB, kC, en, sg, ss, oc, ed, os, ce, rg) := by
  have hs := h.1
  unfold fd_Sz at hs
  have hP := h.2.1
  by_cases hh : hd = 0
  · refine br_t hh ?_
    by_cases hL : L = 0
    · subst hL
      exact br_t rfl (br_t hh (br_t rfl ⟨rfl, fd_in (L := 0) h⟩))
    · have hL0 : ¬ nI L = 0 := nI_ne0 (by omega) (by omega)
      refine br_f hL0 ⟨L + 1, ?_⟩
      rcases fd_first (fun p => fd_tg (oA p) (aA p) (bA p) (cA p) ≤ nI L) L with hg | ⟨q, hq, hb, hg⟩
      · refine fd_xh1 (by omega) (by omega) hP.1 (Nat.le_refl L) hg (fun n => ?_) L 0 (L + 1) (by omega) (by omega)
        have hV : ∀ p, p < 25 → fd_VI R L (oA p) (aA p) (bA p) (cA p) := by
          intro p hp
          by_cases hpL : p < L
          · exact fd_VIL (by omega) (by omega) (hP.1 p hp) (hg p hpL)
          · exact Or.inl (hP.2.1 p (by omega) hp)
        refine br_t (nI_le (Nat.le_refl _) (by omega)) ?_
        refine fd_xcompile (by omega) (by omega) hV (hP.2.1 L (Nat.le_refl _) (by omega)).1 fun cl kO kA kB kC en sg hI he hsg => ?_
        refine br_t hh (br_f hL0 ⟨L + 1, ?_⟩)
        refine fd_yh1 (by omega) hP.1 hP.2.2 (Nat.le_refl L) hg (fun n => ?_) L 0 (L + 1) (by omega) (by omega)
        refine br_t (nI_le (Nat.le_refl _) (by omega)) ⟨rfl, ?_⟩
        exact fd_in ⟨h.1, h.2.1, h.2.2.1, h.2.2.2.1, Or.inr ⟨rfl, by omega, hV, hsg, hI, he⟩⟩
      · obtain ⟨o, ho, eo⟩ := fd_VIo (hP.1 q (by omega))
        refine fd_xh1 (by omega) (by omega) hP.1 (q := q) (by omega) hg (fun n => ?_) q 0 (L + 1) (by omega) (by omega)
        refine br_f (nI_ge (by omega) (by omega)) (fd_xtg (by omega) ho eo (br_f hb ?_))
        refine br_t hh (br_f hL0 ⟨L + 1, ?_⟩)
        refine fd_yh1 (by omega) hP.1 hP.2.2 (q := q) (by omega) hg (fun n => ?_) q 0 (L + 1) (by omega) (by omega)
        refine br_f (nI_ge (by omega) (by omega)) ⟨4, fd_yhbad (by omega) (by omega) ho eo (hP.2.2 q hq) hb ?_⟩
        exact ⟨rfl, fd_in h⟩
  · exact br_f hh (br_f hh ⟨rfl, fd_in h⟩)
end
section
variable {R C K F L : Nat} {hd cl fk fs fp fi fb st sd pl la nw fl : Int32} {oA aA bA cA kO kA kB kC en sg ss oc ed os ce rg pg re : Nat → Int32}
/-! pure values -/
def fd_cmp (k : Nat) (l r : Int32) : Int32 := if k = 2 then l + r else if k = 3 then l - r else if k = 4 then l * r else if k = 5 then l &&& r else if k = 6 then l ^^^ r else if r ≤ l then 0 else 1
def fd_ld (C w : Nat) (ce : Nat → Int32) (v : Int32) : Int32 := if v < 0 then 0 else if nI C ≤ v then 0 else ce (16 * w + v.toNatClampNeg)
def fd_st (C w : Nat) (ce : Nat → Int32) (v x : Int32) : Nat → Int32 := if v < 0 then ce else if nI C ≤ v then ce else upd ce (16 * w + v.toNatClampNeg) x
def fd_cq (o a b q : Int32) : Prop := (o = 8 ∧ q = b) ∨ ((o = 9 ∨ o = 13) ∧ (q = a ∨ q = b)) ∨ ((o = 10 ∨ o = 12) ∧ q = a)
/-! X: the ops -/
theorem fd_xload {post : Int32 → Prop} {w : Nat} {v : Int32} (hw : w < 2) (h1 : 1 ≤ C) (h2 : C ≤ 16) (h : post (fd_ld C w ce v)) : wpX_load post (nI R, nI C, nI K, nI F, nI (2 * R), nI L, hd, cl, fk, fs, fp, fi, fb, st, nI w, pl, la, nw, oA, aA, bA, cA, kO, kA, kB, kC, en, sg, ss, oc, ed, os, ce, rg) v := by
  have hg : nI C - 1 = nI (C - 1) := fd_s1 (by omega)
  unfold wpX_load
  unfold fd_ld at h
  rcases pk_ix v (n := C) (by omega) with hv | hv | ⟨j, hj, rfl⟩
  · rw [if_pos hv] at h
    exact fd_w0n hv (br_t rfl h)
  · rw [if_neg (fd_ge0 (by omega) hv), if_pos hv] at h
    exact fd_w0b (n := C - 1) hg (by omega) (by rw [show C - 1 + 1 = C from by omega]; exact hv) (br_t rfl h)
  · rw [if_neg (nI_pos (by omega)), if_neg (nI_ge hj (by omega)), nI_clamp (by omega)] at h
    refine fd_w1 (n := C - 1) hg (by omega) (by omega) (br_f (by decide) ⟨by rw [fd_16a]; exact vp_in_nI (by omega) (by decide), ?_⟩)
    rw [fd_16a, nI_clamp (by omega)]
    exact h
theorem fd_xstore {post : SX → Prop} {w : Nat} {v x : Int32} (hw : w < 2) (h1 : 1 ≤ C) (h2 : C ≤ 16) (h : post (nI R, nI C, nI K, nI F, nI (2 * R), nI L, hd, cl, fk, fs, fp, fi, fb, st, nI w, pl, la, nw, oA, aA, bA, cA, kO, kA, kB, kC, en, sg, ss, oc, ed, os, fd_st C w ce v x, rg)) : wpX_store post (nI R, nI C, nI K, nI F, nI (2 * R), nI L, hd, cl, fk, fs, fp, fi, fb, st, nI w, pl, la, nw, oA, aA, bA, cA, kO, kA, kB, kC, en, sg, ss, oc, ed, os, ce, rg) v x := by
  have hg : nI C - 1 = nI (C - 1) := fd_s1 (by omega)
  unfold wpX_store
  unfold fd_st at h
  rcases pk_ix v (n := C) (by omega) with hv | hv | ⟨j, hj, rfl⟩
  · rw [if_pos hv] at h
    exact fd_w0n hv (br_t rfl h)
  · rw [if_neg (fd_ge0 (by omega) hv), if_pos hv] at h
    exact fd_w0b (n := C - 1) hg (by omega) (by rw [show C - 1 + 1 = C from by omega]; exact hv) (br_t rfl h)
  · rw [if_neg (nI_pos (by omega)), if_neg (nI_ge hj (by omega)), nI_clamp (by omega)] at h
    refine fd_w1 (n := C - 1) hg (by omega) (by omega) (br_f (by decide) ⟨by rw [fd_16a]; exact vp_in_nI (by omega) (by decide), ?_⟩)
    rw [fd_16a, nI_clamp (by omega)]
    exact nm_e h
theorem fd_xapp {post : SX → Prop} {w n : Nat} {x : Int32} (hw : w < 2) (hn : n < 128) (ho : oc w = nI n) (h : post (nI R, nI C, nI K, nI F, nI (2 * R), nI L, hd, cl, fk, fs, fp, fi, fb, st, nI w, pl, la, nw, oA, aA, bA, cA, kO, kA, kB, kC, en, sg, ss, upd oc w (nI (n + 1)), ed, upd os (128 * w + n) x, ce, rg)) : wpX_append post (nI R, nI C, nI K, nI F, nI (2 * R), nI L, hd, cl, fk, fs, fp, fi, fb, st, nI w, pl, la, nw, oA, aA, bA, cA, kO, kA, kB, kC, en, sg, ss, oc, ed, os, ce, rg) x := by
  have hv : vp_in (nI w) 2 := vp_in_nI hw (by decide)
  have hc : (nI w).toNatClampNeg = w := nI_clamp (by omega)
  refine ⟨hv, nm_r (e' := nI n) (by rw [hc]; exact ho) (br_f (nI_ge (b := 128) hn (by decide)) ⟨by rw [fd_128a]; exact vp_in_nI (by omega) (by decide), ?_⟩)⟩
  refine nm_r (e' := upd os (128 * w + n) x) (by rw [fd_128a, nI_clamp (by omega)]) ⟨hv, ?_⟩
  exact nm_r (e' := upd oc w (nI (n + 1))) (by rw [hc, nI_1]) h
theorem fd_xcomp {post : Int32 → Prop} {k : Nat} {l r : Int32} (h2 : 2 ≤ k) (h7 : k ≤ 7) (h : post (fd_cmp k l r)) : wpX_compute post (nI R, nI C, nI K, nI F, nI (2 * R), nI L, hd, cl, fk, fs, fp, fi, fb, st, sd, pl, la, nw, oA, aA, bA, cA, kO, kA, kB, kC, en, sg, ss, oc, ed, os, ce, rg) (nI k) l r := by
  obtain rfl | rfl | rfl | rfl | rfl | rfl : k = 2 ∨ k = 3 ∨ k = 4 ∨ k = 5 ∨ k = 6 ∨ k = 7 := by omega
  · exact br_f (by decide) (br_f (by decide) (br_t rfl h))
  · exact br_f (by decide) (br_f (by decide) (br_f (by decide) (br_t rfl h)))
  · exact br_f (by decide) (br_f (by decide) (br_f (by decide) (br_f (by decide) (br_t rfl h))))
  · exact br_f (by decide) (br_f (by decide) (br_f (by decide) (br_f (by decide) (br_f (by decide) (br_t rfl h)))))
  · exact br_f (by decide) (br_f (by decide) (br_f (by decide) (br_f (by decide) (br_f (by decide) (br_f (by decide) (br_t rfl h))))))
  · have e : fd_cmp 7 l r = if r ≤ l then 0 else 1 := rfl
    rw [e] at h
    by_cases hr : r ≤ l
    · rw [if_pos hr] at h
      exact br_f (by decide) (br_t (by decide) (br_t hr h))
    · rw [if_neg hr] at h
      exact br_f (by decide) (br_t (by decide) (br_f hr h))
theorem fd_p0 {post : SX → Prop} {w : Nat} {a b c : Int32} (hw : w < 2) (h : post (nI R, nI C, nI K, nI F, nI (2 * R), nI L, hd, cl, fk, fs, fp, fi, fb, st, nI w, pl, la, nw, oA, aA, bA, cA, kO, kA, kB, kC, en, sg, upd ss w 1, oc, ed, os, ce, rg)) : wpX_perform post (nI R, nI C, nI K, nI F, nI (2 * R), nI L, hd, cl, fk, fs, fp, fi, fb, st, nI w, pl, la, nw, oA, aA, bA, cA, kO, kA, kB, kC, en, sg, ss, oc, ed, os, ce, rg) 0 a b c :=
  br_f (by decide) (br_f (by decide) (br_t rfl (⟨vp_in_nI hw (by decide), nm_r (e' := upd ss w 1) (by rw [nI_clamp (by omega)]) h⟩)))
theorem fd_p1 {post : SX → Prop} {x : Nat} {b c : Int32} (hx : x < 17) (h : post (nI R, nI C, nI K, nI F, nI (2 * R), nI L, hd, cl, fk, fs, fp, fi, fb, st, sd, pl, la, nw, oA, aA, bA, cA, kO, kA, kB, kC, en, sg, ss, oc, ed, os, ce, upd rg x b)) : wpX_perform post (nI R, nI C, nI K, nI F, nI (2 * R), nI L, hd, cl, fk, fs, fp, fi, fb, st, sd, pl, la, nw, oA, aA, bA, cA, kO, kA, kB, kC, en, sg, ss, oc, ed, os, ce, rg) 1 (nI x) b c :=
  br_f (by decide) (br_f (by decide) (br_f (by decide) (br_t rfl (⟨vp_in_nI hx (by decide), nm_r (e' := upd rg x b) (by rw [nI_clamp (by omega)]) h⟩))))
theorem fd_p209 {post : SX → Prop} {k x y z : Nat} (h2 : 2 ≤ k) (h7 : k ≤ 7) (hx : x < 17) (hy : y < 17) (hz : z < 17) (h : post (nI R, nI C, nI K, nI F, nI (2 * R), nI L, hd, cl, fk, fs, fp, fi, fb, st, sd, pl, la, nw, oA, aA, bA, cA, kO, kA, kB, kC, en, sg, ss, oc, ed, os, ce, upd rg x (fd_cmp k (rg y) (rg z)))) : wX_perform_209 post (nI k) (nI x) (nI y) (nI z) (nI R) (nI C) (nI K) (nI F) (nI (2 * R)) (nI L) hd cl fk fs fp fi fb st sd pl la nw oA aA bA cA kO kA kB kC en sg ss oc ed os ce rg := by
  refine ⟨vp_in_nI hy (by decide), vp_in_nI hz (by decide), fd_xcomp h2 h7 ⟨vp_in_nI hx (by decide), ?_⟩⟩
  rw [nI_clamp (n := x) (by omega), nI_clamp (n := y) (by omega), nI_clamp (n := z) (by omega)]
  exact nm_e h
theorem fd_pc {post : SX → Prop} {k x y z : Nat} (h2 : 2 ≤ k) (h7 : k ≤ 7) (hx : x < 17) (hy : y < 17) (hz : z < 17) (h : post (nI R, nI C, nI K, nI F, nI (2 * R), nI L, hd, cl, fk, fs, fp, fi, fb, st, sd, pl, la, nw, oA, aA, bA, cA, kO, kA, kB, kC, en, sg, ss, oc, ed, os, ce, upd rg x (fd_cmp k (rg y) (rg z)))) : wpX_perform post (nI R, nI C, nI K, nI F, nI (2 * R), nI L, hd, cl, fk, fs, fp, fi, fb, st, sd, pl, la, nw, oA, aA, bA, cA, kO, kA, kB, kC, en, sg, ss, oc, ed, os, ce, rg) (nI k) (nI x) (nI y) (nI z) := by
  have z := fd_p209 h2 h7 hx hy hz h
  obtain rfl | rfl | rfl | rfl | rfl | rfl : k = 2 ∨ k = 3 ∨ k = 4 ∨ k = 5 ∨ k = 6 ∨ k = 7 := by omega
  · exact br_f (by decide) (br_f (by decide) (br_f (by decide) (br_f (by decide) (br_t rfl (z)))))
  · exact br_f (by decide) (br_f (by decide) (br_f (by decide) (br_f (by decide) (br_f (by decide) (br_t rfl (z))))))
  · exact br_f (by decide) (br_f (by decide) (br_f (by decide) (br_f (by decide) (br_f (by decide) (br_f (by decide) (br_t rfl (z)))))))
  · exact br_f (by decide) (br_f (by decide) (br_f (by decide) (br_f (by decide) (br_f (by decide) (br_f (by decide) (br_f (by decide) (br_t rfl (z))))))))
  · exact br_f (by decide) (br_f (by decide) (br_f (by decide) (br_f (by decide) (br_f (by decide) (br_f (by decide) (br_f (by decide) (br_f (by decide) (br_t rfl (z)))))))))
  · exact br_f (by decide) (br_f (by decide) (br_f (by decide) (br_f (by decide) (br_f (by decide) (br_f (by decide) (br_f (by decide) (br_f (by decide) (br_f (by decide) (br_t rfl (z))))))))))
theorem fd_p8 {post : SX → Prop} {w x y : Nat} {c : Int32} (hw : w < 2) (h1 : 1 ≤ C) (h2 : C ≤ 16) (hx : x < 17) (hy : y < 17) (h : post (nI R, nI C, nI K, nI F, nI (2 * R), nI L, hd, cl, fk, fs, fp, fi, fb, st, nI w, pl, la, nw, oA, aA, bA, cA, kO, kA, kB, kC, en, sg, ss, oc, ed, os, ce, upd rg x (fd_ld C w ce (rg y)))) : wpX_perform post (nI R, nI C, nI K, nI F, nI (2 * R), nI L, hd, cl, fk, fs, fp, fi, fb, st, nI w, pl, la, nw, oA, aA, bA, cA, kO, kA, kB, kC, en, sg, ss, oc, ed, os, ce, rg) 8 (nI x) (nI y) c := by
  have ey : rg (nI y).toNatClampNeg = rg y := by rw [nI_clamp (by omega)]
  refine br_f (by decide) (br_f (by decide) (br_f (by decide) (br_f (by decide) (br_f (by decide) (br_f (by decide) (br_f (by decide) (br_f (by decide) (br_f (by decide) (br_f (by decide) (br_t rfl (⟨vp_in_nI hy (by decide), ?_⟩)))))))))))
  rw [ey]
  exact fd_xload hw h1 h2 ⟨vp_in_nI hx (by decide), nm_r (e' := upd rg x (fd_ld C w ce (rg y))) (by rw [nI_clamp (by omega)]) h⟩
theorem fd_p9 {post : SX → Prop} {w x y : Nat} {c : Int32} (hw : w < 2) (h1 : 1 ≤ C) (h2 : C ≤ 16) (hx : x < 17) (hy : y < 17) (h : post (nI R, nI C, nI K, nI F, nI (2 * R), nI L, hd, cl, fk, fs, fp, fi, fb, st, nI w, pl, la, nw, oA, aA, bA, cA, kO, kA, kB, kC, en, sg, ss, oc, ed, os, fd_st C w ce (rg x) (rg y), rg)) : wpX_perform post (nI R, nI C, nI K, nI F, nI (2 * R), nI L, hd, cl, fk, fs, fp, fi, fb, st, nI w, pl, la, nw, oA, aA, bA, cA, kO, kA, kB, kC, en, sg, ss, oc, ed, os, ce, rg) 9 (nI x) (nI y) c := by
  have ex : rg (nI x).toNatClampNeg = rg x := by rw [nI_clamp (by omega)]
  have ey : rg (nI y).toNatClampNeg = rg y := by rw [nI_clamp (by omega)]
  refine br_f (by decide) (br_f (by decide) (br_f (by decide) (br_f (by decide) (br_f (by decide) (br_f (by decide) (br_f (by decide) (br_f (by decide) (br_f (by decide) (br_f (by decide) (br_f (by decide) (br_t rfl (⟨vp_in_nI hx (by decide), vp_in_nI hy (by decide), ?_⟩))))))))))))
  rw [ex, ey]
  exact fd_xstore hw h1 h2 h
theorem fd_p10 {post : SX → Prop} {w x n : Nat} {b c : Int32} (hw : w < 2) (hx : x < 17) (hn : n < 128) (ho : oc w = nI n) (h : post (nI R, nI C, nI K, nI F, nI (2 * R), nI L, hd, cl, fk, fs, fp, fi, fb, st, nI w, pl, la, nw, oA, aA, bA, cA, kO, kA, kB, kC, en, sg, ss, upd oc w (nI (n + 1)), ed, upd os (128 * w + n) (rg x), ce, rg)) : wpX_perform post (nI R, nI C, nI K, nI F, nI (2 * R), nI L, hd, cl, fk, fs, fp, fi, fb, st, nI w, pl, la, nw, oA, aA, bA, cA, kO, kA, kB, kC, en, sg, ss, oc, ed, os, ce, rg) 10 (nI x) b c := by
  have ex : rg (nI x).toNatClampNeg = rg x := by rw [nI_clamp (by omega)]
  refine br_f (by decide) (br_f (by decide) (br_f (by decide) (br_f (by decide) (br_f (by decide) (br_f (by decide) (br_f (by decide) (br_f (by decide) (br_f (by decide) (br_f (by decide) (br_f (by decide) (br_f (by decide) (br_t rfl (⟨vp_in_nI hx (by decide), ?_⟩)))))))))))))
  rw [ex]
  exact fd_xapp hw hn ho h
theorem fd_p11 {post : SX → Prop} {a b c : Int32} (h : post (nI R, nI C, nI K, nI F, nI (2 * R), nI L, hd, cl, fk, fs, fp, fi, fb, st, sd, pl, a, nw, oA, aA, bA, cA, kO, kA, kB, kC, en, sg, ss, oc, ed, os, ce, rg)) : wpX_perform post (nI R, nI C, nI K, nI F, nI (2 * R), nI L, hd, cl, fk, fs, fp, fi, fb, st, sd, pl, la, nw, oA, aA, bA, cA, kO, kA, kB, kC, en, sg, ss, oc, ed, os, ce, rg) 11 a b c :=
  br_f (by decide) (br_f (by decide) (br_f (by decide) (br_f (by decide) (br_f (by decide) (br_f (by decide) (br_f (by decide) (br_f (by decide) (br_f (by decide) (br_f (by decide) (br_f (by decide) (br_f (by decide) (br_f (by decide) (br_t rfl (h))))))))))))))
theorem fd_p12 {post : SX → Prop} {x : Nat} {b c : Int32} (hx : x < 17) (h : post (nI R, nI C, nI K, nI F, nI (2 * R), nI L, hd, cl, fk, fs, fp, fi, fb, st, sd, pl, if rg x = 0 then b else la, nw, oA, aA, bA, cA, kO, kA, kB, kC, en, sg, ss, oc, ed, os, ce, rg)) : wpX_perform post (nI R, nI C, nI K, nI F, nI (2 * R), nI L, hd, cl, fk, fs, fp, fi, fb, st, sd, pl, la, nw, oA, aA, bA, cA, kO, kA, kB, kC, en, sg, ss, oc, ed, os, ce, rg) 12 (nI x) b c := by
  have ex : rg (nI x).toNatClampNeg = rg x := by rw [nI_clamp (by omega)]
  refine br_f (by decide) (br_f (by decide) (br_f (by decide) (br_f (by decide) (br_f (by decide) (br_f (by decide) (br_f (by decide) (br_f (by decide) (br_f (by decide) (br_f (by decide) (br_f (by decide) (br_f (by decide) (br_f (by decide) (br_f (by decide) (br_t rfl (⟨vp_in_nI hx (by decide), ?_⟩)))))))))))))))
  rw [ex]
  by_cases h0 : rg x = 0
  · rw [if_pos h0] at h; exact br_t h0 h
  · rw [if_neg h0] at h; exact br_f h0 h
theorem fd_p13 {post : SX → Prop} {x y : Nat} {c : Int32} (hx : x < 17) (hy : y < 17) (h : post (nI R, nI C, nI K, nI F, nI (2 * R), nI L, hd, cl, fk, fs, fp, fi, fb, st, sd, pl, if rg y ≤ rg x then la else c, nw, oA, aA, bA, cA, kO, kA, kB, kC, en, sg, ss, oc, ed, os, ce, rg)) : wpX_perform post (nI R, nI C, nI K, nI F, nI (2 * R), nI L, hd, cl, fk, fs, fp, fi, fb, st, sd, pl, la, nw, oA, aA, bA, cA, kO, kA, kB, kC, en, sg, ss, oc, ed, os, ce, rg) 13 (nI x) (nI y) c := by
  have ex : rg (nI x).toNatClampNeg = rg x := by rw [nI_clamp (by omega)]
  have ey : rg (nI y).toNatClampNeg = rg y := by rw [nI_clamp (by omega)]
  refine br_f (by decide) (br_f (by decide) (br_f (by decide) (br_f (by decide) (br_f (by decide) (br_f (by decide) (br_f (by decide) (br_f (by decide) (br_f (by decide) (br_f (by decide) (br_f (by decide) (br_f (by decide) (br_f (by decide) (br_f (by decide) (br_f (by decide) (br_t rfl (⟨vp_in_nI hx (by decide), vp_in_nI hy (by decide), ?_⟩))))))))))))))))
  rw [ex, ey]
  by_cases h0 : rg y ≤ rg x
  · rw [if_pos h0] at h; exact br_t h0 h
  · rw [if_neg h0] at h; exact br_f h0 h
/-! Y: the fields of a place, the compared registers, the check -/
theorem fd_yf {post : Int32 → Prop} {p k : Nat} {v : Int32} (hL : L ≤ 24) (hp : p ≤ L) (hk : k ≤ 3) (e : p < L → pg (4 * p + k) = v) (ez : p = L → v = 0) (h : post v) : wpY_field post (nI R, nI C, nI K, nI F, nI L, st, fk, fs, fp, fi, fb, hd, fl, pg, ce, os, oc, ss, ed, re) (nI p) (nI k) := by
  refine br_f (nI_pos (by omega)) ?_
  by_cases hpl : p < L
  · refine br_f (nI_ge hpl (by omega)) (br_f (nI_pos (by omega)) (br_f (nI_nlt (b := k) (a := 3) (by omega) (by decide)) ⟨by rw [fd_4mk]; exact vp_in_nI (by omega) (by decide), ?_⟩))
    rw [fd_4mk, nI_clamp (by omega), e hpl]
    exact h
  · rw [ez (by omega)] at h
    exact br_t (nI_le (by omega) (by omega)) h
theorem fd_yf0 {post : Int32 → Prop} {p : Nat} (hP : fd_Pg R K L oA aA bA cA pg) (hL : L ≤ 24) (hp : p ≤ L) (h : post (oA p)) : wpY_field post (nI R, nI C, nI K, nI F, nI L, st, fk, fs, fp, fi, fb, hd, fl, pg, ce, os, oc, ss, ed, re) (nI p) 0 :=
  fd_yf (k := 0) hL hp (by decide) (fun z => (hP.2.2 p z).1) (fun z => (hP.2.1 p (by omega) (by omega)).1) h
theorem fd_yf1 {post : Int32 → Prop} {p : Nat} (hP : fd_Pg R K L oA aA bA cA pg) (hL : L ≤ 24) (hp : p ≤ L) (h : post (aA p)) : wpY_field post (nI R, nI C, nI K, nI F, nI L, st, fk, fs, fp, fi, fb, hd, fl, pg, ce, os, oc, ss, ed, re) (nI p) 1 :=
  fd_yf (k := 1) hL hp (by decide) (fun z => (hP.2.2 p z).2.1) (fun z => (hP.2.1 p (by omega) (by omega)).2.1) h
theorem fd_yf2 {post : Int32 → Prop} {p : Nat} (hP : fd_Pg R K L oA aA bA cA pg) (hL : L ≤ 24) (hp : p ≤ L) (h : post (bA p)) : wpY_field post (nI R, nI C, nI K, nI F, nI L, st, fk, fs, fp, fi, fb, hd, fl, pg, ce, os, oc, ss, ed, re) (nI p) 2 :=
  fd_yf (k := 2) hL hp (by decide) (fun z => (hP.2.2 p z).2.2.1) (fun z => (hP.2.1 p (by omega) (by omega)).2.2.1) h
theorem fd_yf3 {post : Int32 → Prop} {p : Nat} (hP : fd_Pg R K L oA aA bA cA pg) (hL : L ≤ 24) (hp : p ≤ L) (h : post (cA p)) : wpY_field post (nI R, nI C, nI K, nI F, nI L, st, fk, fs, fp, fi, fb, hd, fl, pg, ce, os, oc, ss, ed, re) (nI p) 3 :=
  fd_yf (k := 3) hL hp (by decide) (fun z => (hP.2.2 p z).2.2.2) (fun z => (hP.2.1 p (by omega) (by omega)).2.2.2) h
theorem fd_ycm {post : Int32 → Prop} {p : Nat} {q : Int32} (hP : fd_Pg R K L oA aA bA cA pg) (hL : L ≤ 24) (hp : p ≤ L) (h1 : fd_cq (oA p) (aA p) (bA p) q → post 1) (h0 : ¬ fd_cq (oA p) (aA p) (bA p) q → post 0) : wpY_compared post (nI R, nI C, nI K, nI F, nI L, st, fk, fs, fp, fi, fb, hd, fl, pg, ce, os, oc, ss, ed, re) (nI p) q := by
  unfold wpY_compared
  refine fd_yf0 hP hL hp (fd_yf1 hP hL hp (fd_yf2 hP hL hp ?_))
  by_cases c1 : oA p = 8 ∧ q = bA p
  · exact br_t c1.1 (br_t c1.2 (h1 (Or.inl c1)))
  · by_cases c2 : (oA p = 9 ∨ oA p = 13) ∧ (q = aA p ∨ q = bA p)
    · have z : post 1 := h1 (Or.inr (Or.inl c2))
      have z47 : wY_compared_47 post q (oA p) (aA p) (bA p) (nI R) (nI C) (nI K) (nI F) (nI L) st fk fs fp fi fb hd fl pg ce os oc ss ed re := br_c (fun _ => z) fun e => br_t (c2.2.resolve_left e) z
      have z35 : wY_compared_35 post q (oA p) (aA p) (bA p) (nI R) (nI C) (nI K) (nI F) (nI L) st fk fs fp fi fb hd fl pg ce os oc ss ed re := br_c (fun _ => z47) fun e => br_t (c2.1.resolve_left e) z47
      exact br_c (fun e => br_f (fun e' => c1 ⟨e, e'⟩) z35) fun _ => z35
    · have z59 : wY_compared_59 post q (oA p) (aA p) (nI R) (nI C) (nI K) (nI F) (nI L) st fk fs fp fi fb hd fl pg ce os oc ss ed re := by
        by_cases c3 : (oA p = 10 ∨ oA p = 12) ∧ q = aA p
        · have z : wY_compared_71 post q (aA p) (nI R) (nI C) (nI K) (nI F) (nI L) st fk fs fp fi fb hd fl pg ce os oc ss ed re := br_t c3.2 (h1 (Or.inr (Or.inr c3)))
          exact br_c (fun _ => z) fun e => br_t (c3.1.resolve_left e) z
        · have z : post 0 := h0 (fun z => z.elim c1 fun z => z.elim c2 c3)
          exact br_c (fun e => br_f (fun e' => c3 ⟨Or.inl e, e'⟩) z) fun _ => br_c (fun e => br_f (fun e' => c3 ⟨Or.inr e, e'⟩) z) fun _ => z
      have z35 : wY_compared_35 post q (oA p) (aA p) (bA p) (nI R) (nI C) (nI K) (nI F) (nI L) st fk fs fp fi fb hd fl pg ce os oc ss ed re :=
        br_c (fun e => br_f (fun e' => c2 ⟨Or.inl e, Or.inl e'⟩) (br_f (fun e' => c2 ⟨Or.inl e, Or.inr e'⟩) z59)) fun _ => br_c (fun e => br_f (fun e' => c2 ⟨Or.inr e, Or.inl e'⟩) (br_f (fun e' => c2 ⟨Or.inr e, Or.inr e'⟩) z59)) fun _ => z59
      exact br_c (fun e => br_f (fun e' => c1 ⟨e, e'⟩) z35) fun _ => z35
theorem fd_yk0 {post : Int32 → Prop} {p : Nat} (hP : fd_Pg R K L oA aA bA cA pg) (hR8 : R ≤ 8) (hL : L ≤ 24) (hp : p ≤ L) (h : post 0) : ∀ (d q n : Nat), q + d = R → d < n → (∀ i, q ≤ i → i < R → fd_cq (oA p) (aA p) (bA p) (nI i) → re i = re (R + i)) → wY_check_11 post (nI p) (nI R) (nI C) (nI K) (nI F) (nI L) st fk fs fp fi fb hd fl pg ce os oc ss ed re n (nI q) := by
  intro d
  induction d with
  | zero =>
    intro q n hq hn _
    obtain ⟨n, rfl, hm⟩ := fd_suc hn
    exact br_t (nI_le (by omega) (by omega)) h
  | succ d ih =>
    intro q n hq hn hg
    obtain ⟨n, rfl, hm⟩ := fd_suc hn
    have z := ih (q + 1) n (by omega) (by omega) fun i h1 h2 => hg i (by omega) h2
    refine br_f (nI_ge (by omega) (by omega)) (fd_ycm hP hL hp (fun c => br_f (by decide) ⟨vp_in_nI (by omega) (by decide), by rw [nI_add]; exact vp_in_nI (by omega) (by decide), ?_⟩) fun _ => br_t rfl (nm_r (nI_1 q) z))
    refine br_t ?_ (nm_r (nI_1 q) z)
    rw [nI_add, nI_clamp (by omega), nI_clamp (by omega)]
    exact hg q (Nat.le_refl _) (by omega) c
theorem fd_yk3 {post : Int32 → Prop} {p i : Nat} (hP : fd_Pg R K L oA aA bA cA pg) (hR8 : R ≤ 8) (hL : L ≤ 24) (hp : p ≤ L) (h : post 3) (hi : i < R) (hc : fd_cq (oA p) (aA p) (bA p) (nI i)) (hne : ¬ re i = re (R + i)) : ∀ (d q n : Nat), q + d = i → d < n → wY_check_11 post (nI p) (nI R) (nI C) (nI K) (nI F) (nI L) st fk fs fp fi fb hd fl pg ce os oc ss ed re n (nI q) := by
  intro d
  induction d with
  | zero =>
    intro q n hq hn
    obtain ⟨n, rfl, hm⟩ := fd_suc hn
    obtain rfl : q = i := by omega
    refine br_f (nI_ge (by omega) (by omega)) (fd_ycm hP hL hp (fun c => br_f (by decide) ⟨vp_in_nI (by omega) (by decide), by rw [nI_add]; exact vp_in_nI (by omega) (by decide), ?_⟩) fun c => absurd hc c)
    rw [nI_add, nI_clamp (by omega), nI_clamp (by omega)]
    exact br_f hne h
  | succ d ih =>
    intro q n hq hn
    obtain ⟨n, rfl, hm⟩ := fd_suc hn
    have z := ih (q + 1) n (by omega) (by omega)
    refine br_f (nI_ge (by omega) (by omega)) (fd_ycm hP hL hp (fun c => br_f (by decide) ⟨vp_in_nI (by omega) (by decide), by rw [nI_add]; exact vp_in_nI (by omega) (by decide), ?_⟩) fun _ => br_t rfl (nm_r (nI_1 q) z))
    rw [nI_add, nI_clamp (by omega), nI_clamp (by omega)]
    exact br_c (fun _ => nm_r (nI_1 q) z) fun _ => h
theorem fd_ychk0 {post : Int32 → Prop} {p : Nat} (hP : fd_Pg R K L oA aA bA cA pg) (hR8 : R ≤ 8) (hL : L ≤ 24) (hp : p ≤ L) (hg : ∀ i, i < R → fd_cq (oA p) (aA p) (bA p) (nI i) → re i = re (R + i)) (h : post 0) : wpY_check post (nI R, nI C, nI K, nI F, nI L, st, fk, fs, fp, fi, fb, hd, 0, pg, ce, os, oc, ss, ed, re) (nI p) :=
  br_t rfl ⟨R + 1, fd_yk0 hP hR8 hL hp h R 0 (R + 1) (by omega) (by omega) fun i _ hi => hg i hi⟩
theorem fd_ychk3 {post : Int32 → Prop} {p i : Nat} (hP : fd_Pg R K L oA aA bA cA pg) (hR8 : R ≤ 8) (hL : L ≤ 24) (hp : p ≤ L) (hi : i < R) (hc : fd_cq (oA p) (aA p) (bA p) (nI i)) (hne : ¬ re i = re (R + i)) (h : post 3) : wpY_check post (nI R, nI C, nI K, nI F, nI L, st, fk, fs, fp, fi, fb, hd, 0, pg, ce, os, oc, ss, ed, re) (nI p) :=
  br_t rfl ⟨i + 1, fd_yk3 hP hR8 hL hp h hi hc hne i 0 (i + 1) (by omega) (by omega)⟩
theorem fd_ychk4 {post : Int32 → Prop} {p : Nat} (h : post 4) : wpY_check post (nI R, nI C, nI K, nI F, nI L, st, fk, fs, fp, fi, fb, hd, 1, pg, ce, os, oc, ss, ed, re) (nI p) := br_f (by decide) h
/-! Y: the ops 1 .. 10 -/
theorem fd_ycalc {post : SY → Prop} {k x y z : Nat} (h2 : 2 ≤ k) (h7 : k ≤ 7) (hx : x < 16) (hy : y < 16) (hz : z < 16) (h : post (nI R, nI C, nI K, nI F, nI L, st, fk, fs, fp, fi, fb, hd, fl, pg, ce, os, oc, ss, ed, upd re x (fd_cmp k (re y) (re z)))) : wpY_calc post (nI R, nI C, nI K, nI F, nI L, st, fk, fs, fp, fi, fb, hd, fl, pg, ce, os, oc, ss, ed, re) (nI k) (nI x) (nI y) (nI z) := by
  have hv : vp_in (nI x) 16 := vp_in_nI hx (by decide)
  refine ⟨vp_in_nI hy (by decide), nm_r (e' := re y) (by rw [nI_clamp (by omega)]) ⟨vp_in_nI hz (by decide), nm_r (e' := re z) (by rw [nI_clamp (by omega)]) ?_⟩⟩
  have ex : (nI x).toNatClampNeg = x := nI_clamp (by omega)
  rw [ex]
  obtain rfl | rfl | rfl | rfl | rfl | rfl : k = 2 ∨ k = 3 ∨ k = 4 ∨ k = 5 ∨ k = 6 ∨ k = 7 := by omega
  · exact br_t rfl ⟨hv, nm_e h⟩
  · exact br_f (by decide) (br_t rfl ⟨hv, nm_e h⟩)
  · exact br_f (by decide) (br_f (by decide) (br_t rfl ⟨hv, nm_e h⟩))
  · exact br_f (by decide) (br_f (by decide) (br_f (by decide) (br_t rfl ⟨hv, nm_e h⟩)))
  · exact br_f (by decide) (br_f (by decide) (br_f (by decide) (br_f (by decide) (br_t rfl ⟨hv, nm_e h⟩))))
  · have e : fd_cmp 7 (re y) (re z) = if re z ≤ re y then 0 else 1 := rfl
    rw [e] at h
    by_cases hr : re z ≤ re y
    · rw [if_pos hr] at h
      exact br_f (by decide) (br_f (by decide) (br_f (by decide) (br_f (by decide) (br_f (by decide) (br_t hr ⟨hv, nm_e h⟩)))))
    · rw [if_neg hr] at h
      exact br_f (by decide) (br_f (by decide) (br_f (by decide) (br_f (by decide) (br_f (by decide) (br_f hr ⟨hv, nm_e h⟩)))))
theorem fd_ycell {post : Int32 → Prop} {w : Nat} {v : Int32} (hw : w < 2) (h2 : C ≤ 16) (h : post (fd_ld C w ce v)) : wpY_cell post (nI R, nI C, nI K, nI F, nI L, st, fk, fs, fp, fi, fb, hd, fl, pg, ce, os, oc, ss, ed, re) (nI w) v := by
  unfold fd_ld at h
  refine br_f (nI_pos (by omega)) (br_f (nI_nlt (b := w) (a := 2) (by omega) (by decide)) ?_)
  by_cases hv : v < 0
  · rw [if_pos hv] at h
    exact br_t hv h
  · rw [if_neg hv] at h
    by_cases hc : nI C ≤ v
    · rw [if_pos hc] at h
      exact br_f hv (br_t hc h)
    · rw [if_neg hc] at h
      obtain ⟨j, hj, rfl⟩ := nI_of hv
      have hjc : j < C := by
        rw [nI_leI (by omega) hj] at hc
        omega
      rw [nI_clamp (by omega)] at h
      refine br_f hv (br_f hc ⟨by rw [fd_16b]; exact vp_in_nI (by omega) (by decide), ?_⟩)
      rw [fd_16b, nI_clamp (by omega)]
      exact h
theorem fd_y204 {post : SY → Prop} {x1 o a : Int32} (ho : ¬ o = 10) (h : post (nI R, nI C, nI K, nI F, nI L, st, fk, fs, fp, fi, fb, hd, fl, pg, ce, os, oc, ss, ed, re)) : wY_perform_204 post x1 o a (nI R) (nI C) (nI K) (nI F) (nI L) st fk fs fp fi fb hd fl pg ce os oc ss ed re := br_f ho h
theorem fd_y150 {post : SY → Prop} {x1 o a b : Int32} (ho : ¬ o = 10) (h9 : ¬ o = 9) (h : post (nI R, nI C, nI K, nI F, nI L, st, fk, fs, fp, fi, fb, hd, fl, pg, ce, os, oc, ss, ed, re)) : wY_perform_150 post x1 o a b (nI R) (nI C) (nI K) (nI F) (nI L) st fk fs fp fi fb hd fl pg ce os oc ss ed re := br_f h9 (br_f ho h)
theorem fd_y107 {post : SY → Prop} {x1 o a b : Int32} (ho : ¬ o = 10) (h9 : ¬ o = 9) (h8 : ¬ o = 8) (h : post (nI R, nI C, nI K, nI F, nI L, st, fk, fs, fp, fi, fb, hd, fl, pg, ce, os, oc, ss, ed, re)) : wY_perform_107 post x1 o a b (nI R) (nI C) (nI K) (nI F) (nI L) st fk fs fp fi fb hd fl pg ce os oc ss ed re := br_f h8 (br_f h9 (br_f ho h))
theorem fd_yflds {post : SY → Prop} {p : Nat} {x1 o a b c : Int32} (hP : fd_Pg R K L oA aA bA cA pg) (hL : L ≤ 24) (hp : p ≤ L) (eo : oA p = o) (ea : aA p = a) (eb : bA p = b) (ec : cA p = c) (h1 : ¬ o = 1) (h : wY_perform_59 post x1 o a b c (nI R) (nI C) (nI K) (nI F) (nI L) st fk fs fp fi fb hd fl pg ce os oc ss ed re) : wpY_perform post (nI R, nI C, nI K, nI F, nI L, st, fk, fs, fp, fi, fb, hd, fl, pg, ce, os, oc, ss, ed, re) x1 (nI p) := by
  subst eo ea eb ec
  unfold wpY_perform
  refine fd_yf0 hP hL hp (fd_yf1 hP hL hp (fd_yf2 hP hL hp (fd_yf3 hP hL hp ?_)))
  exact br_f h1 h
theorem fd_yp1 {post : SY → Prop} {p x : Nat} {x1 b : Int32} (hP : fd_Pg R K L oA aA bA cA pg) (hR8 : R ≤ 8) (hL : L ≤ 24) (hp : p ≤ L) (eo : oA p = 1) (ea : aA p = nI x) (eb : bA p = b) (hx : x < R) (h : post (nI R, nI C, nI K, nI F, nI L, st, fk, fs, fp, fi, fb, hd, fl, pg, ce, os, oc, ss, ed, upd (upd re x b) (R + x) b)) : wpY_perform post (nI R, nI C, nI K, nI F, nI L, st, fk, fs, fp, fi, fb, hd, fl, pg, ce, os, oc, ss, ed, re) x1 (nI p) := by
  unfold wpY_perform
  refine fd_yf0 hP hL hp (fd_yf1 hP hL hp (fd_yf2 hP hL hp (fd_yf3 hP hL hp ?_)))
  rw [eo, ea, eb]
  refine br_t rfl ⟨vp_in_nI (by omega) (by decide), nm_r (e' := upd re x b) (by rw [nI_clamp (by omega)]) ⟨by rw [nI_add]; exact vp_in_nI (by omega) (by decide), nm_r (e' := upd (upd re x b) (R + x) b) (by rw [nI_add, nI_clamp (by omega)]) ?_⟩⟩
  exact br_t (by decide) (fd_y107 (by decide) (by decide) (by decide) h)
theorem fd_ypc {post : SY → Prop} {p k x y z : Nat} {x1 : Int32} (hP : fd_Pg R K L oA aA bA cA pg) (hR8 : R ≤ 8) (hL : L ≤ 24) (hp : p ≤ L) (h2 : 2 ≤ k) (h7 : k ≤ 7) (eo : oA p = nI k) (ea : aA p = nI x) (eb : bA p = nI y) (ec : cA p = nI z) (hx : x < R) (hy : y < R) (hz : z < R) (h : post (nI R, nI C, nI K, nI F, nI L, st, fk, fs, fp, fi, fb, hd, fl, pg, ce, os, oc, ss, ed, upd (upd re x (fd_cmp k (re y) (re z))) (R + x) (fd_cmp k (re (R + y)) (re (R + z))))) : wpY_perform post (nI R, nI C, nI K, nI F, nI L, st, fk, fs, fp, fi, fb, hd, fl, pg, ce, os, oc, ss, ed, re) x1 (nI p) := by
  have hne : ∀ m, m ≤ 13 → k ≠ m → ¬ nI k = nI m := fun m hm hkm hz => hkm ((nI_eq (by omega) (by omega)).mp hz)
  refine fd_yflds hP hL hp eo ea eb ec (hne 1 (by omega) (by omega)) ?_
  refine br_f (nI_nlt (a := k) (b := 2) h2 (by omega)) (br_f (nI_nlt (a := 7) (b := k) h7 (by decide)) ?_)
  refine fd_ycalc h2 h7 (by omega) (by omega) (by omega) ?_
  show wpY_calc _ _ (nI k) (nI R + nI x) (nI R + nI y) (nI R + nI z)
  rw [nI_add, nI_add, nI_add]
  refine fd_ycalc h2 h7 (by omega) (by omega) (by omega) ?_
  rw [pk_un (show R + y ≠ x from by omega), pk_un (show R + z ≠ x from by omega)]
  exact fd_y107 (hne 10 (by omega) (by omega)) (hne 9 (by omega) (by omega)) (hne 8 (by omega) (by omega)) h
theorem fd_yp8 {post : SY → Prop} {w p x y : Nat} (hP : fd_Pg R K L oA aA bA cA pg) (hR8 : R ≤ 8) (hC : C ≤ 16) (hL : L ≤ 24) (hp : p ≤ L) (hw : w < 2) (eo : oA p = 8) (ea : aA p = nI x) (eb : bA p = nI y) (hx : x < R) (hy : y < R) (h : post (nI R, nI C, nI K, nI F, nI L, st, fk, fs, fp, fi, fb, hd, fl, pg, ce, os, oc, ss, ed, upd (upd re x (fd_ld C w ce (re y))) (R + x) (fd_ld C w ce (re y)))) : wpY_perform post (nI R, nI C, nI K, nI F, nI L, st, fk, fs, fp, fi, fb, hd, fl, pg, ce, os, oc, ss, ed, re) (nI w) (nI p) := by
  have ey : re (nI y).toNatClampNeg = re y := by rw [nI_clamp (by omega)]
  refine fd_yflds hP hL hp eo ea eb rfl (by decide) ?_
  refine br_f (by decide) (br_t (by decide) (br_t rfl ⟨vp_in_nI (by omega) (by decide), ?_⟩))
  rw [ey]
  refine fd_ycell hw hC ⟨vp_in_nI (by omega) (by decide), nm_r (e' := upd re x (fd_ld C w ce (re y))) (by rw [nI_clamp (by omega)]) ⟨by rw [nI_add]; exact vp_in_nI (by omega) (by decide), nm_r (e' := upd (upd re x (fd_ld C w ce (re y))) (R + x) (fd_ld C w ce (re y))) (by rw [nI_add, nI_clamp (by omega)]) ?_⟩⟩
  exact fd_y150 (by decide) (by decide) h
theorem fd_yp9 {post : SY → Prop} {w p x y : Nat} (hP : fd_Pg R K L oA aA bA cA pg) (hR8 : R ≤ 8) (hC : C ≤ 16) (hL : L ≤ 24) (hp : p ≤ L) (hw : w < 2) (eo : oA p = 9) (ea : aA p = nI x) (eb : bA p = nI y) (hx : x < R) (hy : y < R) (h : post (nI R, nI C, nI K, nI F, nI L, st, fk, fs, fp, fi, fb, hd, fl, pg, fd_st C w ce (re x) (re y), os, oc, ss, ed, re)) : wpY_perform post (nI R, nI C, nI K, nI F, nI L, st, fk, fs, fp, fi, fb, hd, fl, pg, ce, os, oc, ss, ed, re) (nI w) (nI p) := by
  have ex : re (nI x).toNatClampNeg = re x := by rw [nI_clamp (by omega)]
  have ey : re (nI y).toNatClampNeg = re y := by rw [nI_clamp (by omega)]
  have hvx : vp_in (nI x) 16 := vp_in_nI (by omega) (by decide)
  refine fd_yflds hP hL hp eo ea eb rfl (by decide) ?_
  refine br_f (by decide) (br_t (by decide) (br_f (by decide) (br_t rfl ⟨hvx, ?_⟩)))
  rw [ex, ey]
  unfold fd_st at h
  by_cases hv : re x < 0
  · rw [if_pos hv] at h
    exact br_t hv (fd_y204 (by decide) h)
  · rw [if_neg hv] at h
    refine br_f hv ⟨hvx, ?_⟩
    by_cases hc : nI C ≤ re x
    · rw [if_pos hc] at h
      exact br_t hc (fd_y204 (by decide) h)
    · rw [if_neg hc] at h
      obtain ⟨j, hj, ej⟩ := nI_of hv
      have hjc : j < C := by
        rw [ej, nI_leI (by omega) hj] at hc
        omega
      rw [ej, nI_clamp (by omega)] at h
      refine br_f hc ⟨hvx, vp_in_nI (by omega) (by decide), ?_⟩
      rw [ej, fd_16b, nI_clamp (by omega)]
      exact ⟨vp_in_nI (by omega) (by decide), nm_e (fd_y204 (by decide) h)⟩
theorem fd_yp10 {post : SY → Prop} {w p x n : Nat} (hP : fd_Pg R K L oA aA bA cA pg) (hR8 : R ≤ 8) (hL : L ≤ 24) (hp : p ≤ L) (hw : w < 2) (eo : oA p = 10) (ea : aA p = nI x) (hx : x < R) (hn : n < 128) (en : oc w = nI n) (h : post (nI R, nI C, nI K, nI F, nI L, st, fk, fs, fp, fi, fb, hd, fl, pg, ce, upd os (128 * w + n) (re x), upd oc w (nI (n + 1)), ss, ed, re)) : wpY_perform post (nI R, nI C, nI K, nI F, nI L, st, fk, fs, fp, fi, fb, hd, fl, pg, ce, os, oc, ss, ed, re) (nI w) (nI p) := by
  have hv : vp_in (nI w) 2 := vp_in_nI hw (by decide)
  have ew : (nI w).toNatClampNeg = w := nI_clamp (by omega)
  have ex : (nI x).toNatClampNeg = x := nI_clamp (by omega)
  refine fd_yflds hP hL hp eo ea rfl rfl (by decide) ?_
  refine br_f (by decide) (br_t (by decide) (br_f (by decide) (br_f (by decide) (br_t rfl ⟨hv, vp_in_nI (by omega) (by decide), ?_⟩))))
  rw [ew, ex, en, fd_128b, nI_clamp (by omega), nI_1]
  exact ⟨vp_in_nI (by omega) (by decide), nm_e ⟨hv, hv, nm_e h⟩⟩
/-! Y: the branches -/
theorem fd_yb11 {post : Int32 → Prop} {p : Nat} {g a : Int32} (hP : fd_Pg R K L oA aA bA cA pg) (hL : L ≤ 24) (hp : p ≤ L) (eo : oA p = 11) (ea : aA p = a) (h : post a) : wpY_chosen post (nI R, nI C, nI K, nI F, nI L, st, fk, fs, fp, fi, fb, hd, fl, pg, ce, os, oc, ss, ed, re) (nI p) g := by
  unfold wpY_chosen
  refine fd_yf0 hP hL hp (fd_yf1 hP hL hp (fd_yf2 hP hL hp (fd_yf3 hP hL hp ?_)))
  rw [ea]
  exact br_t eo h
theorem fd_yb12 {post : Int32 → Prop} {p g x : Nat} {b : Int32} (hP : fd_Pg R K L oA aA bA cA pg) (hL : L ≤ 24) (hp : p ≤ L) (eo : oA p = 12) (ea : aA p = nI x) (eb : bA p = b) (hx : g + x < 16) (h : post (if re (g + x) = 0 then b else nI (p + 1))) : wpY_chosen post (nI R, nI C, nI K, nI F, nI L, st, fk, fs, fp, fi, fb, hd, fl, pg, ce, os, oc, ss, ed, re) (nI p) (nI g) := by
  unfold wpY_chosen
  refine fd_yf0 hP hL hp (fd_yf1 hP hL hp (fd_yf2 hP hL hp (fd_yf3 hP hL hp ?_)))
  rw [eo, ea, eb]
  refine br_f (by decide) (br_t rfl ⟨by rw [nI_add]; exact vp_in_nI hx (by decide), ?_⟩)
  rw [nI_add, nI_clamp (by omega), nI_1]
  by_cases h0 : re (g + x) = 0
  · rw [if_pos h0] at h; exact br_t h0 h
  · rw [if_neg h0] at h; exact br_f h0 h
theorem fd_yb13 {post : Int32 → Prop} {p g x y : Nat} {c : Int32} (hP : fd_Pg R K L oA aA bA cA pg) (hL : L ≤ 24) (hp : p ≤ L) (eo : oA p = 13) (ea : aA p = nI x) (eb : bA p = nI y) (ec : cA p = c) (hx : g + x < 16) (hy : g + y < 16) (h : post (if re (g + y) ≤ re (g + x) then nI (p + 1) else c)) : wpY_chosen post (nI R, nI C, nI K, nI F, nI L, st, fk, fs, fp, fi, fb, hd, fl, pg, ce, os, oc, ss, ed, re) (nI p) (nI g) := by
  unfold wpY_chosen
  refine fd_yf0 hP hL hp (fd_yf1 hP hL hp (fd_yf2 hP hL hp (fd_yf3 hP hL hp ?_)))
  rw [eo, ea, eb, ec]
  refine br_f (by decide) (br_f (by decide) ⟨by rw [nI_add]; exact vp_in_nI hx (by decide), by rw [nI_add]; exact vp_in_nI hy (by decide), ?_⟩)
  rw [nI_add, nI_add, nI_clamp (by omega), nI_clamp (by omega), nI_1]
  by_cases h0 : re (g + y) ≤ re (g + x)
  · rw [if_pos h0] at h; exact br_t h0 h
  · rw [if_neg h0] at h; exact br_f h0 h
end
section
variable {R C K F L : Nat} {hd cl fk fs fp fi fb st sd pl la nw fl : Int32} {oA aA bA cA kO kA kB kC en sg ss oc ed os ce rg pg re : Nat → Int32}
/-! the source run -/
def fd_SI (R L s p : Nat) (rg re oc : Nat → Int32) : Prop :=
  p ≤ L ∧ (∀ i, i < R → rg i = re i ∧ re (R + i) = re i) ∧ (∃ n, n ≤ s ∧ oc 0 = nI n) ∧ fd_Oc oc
theorem fd_ysrc {post : Int32 → SY → Prop} {s p n : Nat} (hP : fd_Pg R K L oA aA bA cA pg) (hR8 : R ≤ 8) (hL : L ≤ 24) (hF8 : F ≤ 128) (hp : p ≤ L) (hF : s < F) (hcl : ∀ i, i < R → re i = re (R + i))
    (h : wY_run_199 post (wY_run_99 post 0 0 n) 0 0 (nI p) 0 (nI s) (oA p) (nI R) (nI C) (nI K) (nI F) (nI L) st fk fs fp fi fb hd 0 pg ce os oc ss ed re) : wY_run_99 post 0 0 (n + 1) (nI p) 0 (nI s) (nI R) (nI C) (nI K) (nI F) (nI L) st fk fs fp fi fb hd 0 pg ce os oc ss ed re := by
  have z173 : wY_run_173 post (wY_run_99 post 0 0 n) 0 0 (nI p) 0 (nI s) (oA p) 0 (nI R) (nI C) (nI K) (nI F) (nI L) st fk fs fp fi fb hd 0 pg ce os oc ss ed re := br_t rfl (br_t rfl h)
  have z166 : wY_run_166 post (wY_run_99 post 0 0 n) 0 0 (nI p) (nI s) (oA p) 0 (nI R) (nI C) (nI K) (nI F) (nI L) st fk fs fp fi fb hd 0 pg ce os oc ss ed re := by
    unfold wY_run_166
    exact fd_ychk0 hP hR8 hL hp (fun i hi _ => hcl i hi) z173
  have z154 : wY_run_154 post (wY_run_99 post 0 0 n) 0 0 (nI p) 0 (nI s) (oA p) 0 (nI R) (nI C) (nI K) (nI F) (nI L) st fk fs fp fi fb hd 0 pg ce os oc ss ed re := br_c (fun _ => z166) fun _ => br_c (fun _ => z173) fun _ => z166
  refine br_f (nI_ge hF (by omega)) (fd_yf0 hP hL hp (br_f (by decide) ?_))
  exact br_t rfl z154
theorem fd_y199s {post : Int32 → SY → Prop} {w s p n : Nat} {x2 o : Int32} {ce' os' oc' re' : Nat → Int32} (h0 : ¬ o = 0) (h11 : ¬ 11 ≤ o) (hY : ∀ Q : SY → Prop, Q (nI R, nI C, nI K, nI F, nI L, st, fk, fs, fp, fi, fb, hd, fl, pg, ce', os', oc', ss, ed, re') → wpY_perform Q (nI R, nI C, nI K, nI F, nI L, st, fk, fs, fp, fi, fb, hd, fl, pg, ce, os, oc, ss, ed, re) (nI w) (nI p))
    (h : wY_run_99 post (nI w) x2 n (nI (p + 1)) 0 (nI (s + 1)) (nI R) (nI C) (nI K) (nI F) (nI L) st fk fs fp fi fb hd fl pg ce' os' oc' ss ed re') : wY_run_199 post (wY_run_99 post (nI w) x2 n) (nI w) x2 (nI p) 0 (nI s) o (nI R) (nI C) (nI K) (nI F) (nI L) st fk fs fp fi fb hd fl pg ce os oc ss ed re := by
  refine br_f h0 (br_f h11 (hY _ ?_))
  exact nm_r (nI_1 p) (nm_r (nI_1 s) h)
theorem fd_y199b {post : Int32 → SY → Prop} {w s p n : Nat} {x2 o wt l l' st' fl' : Int32} (h0 : ¬ o = 0) (h11 : 11 ≤ o) (hW : ∀ Q : Int32 → Prop, Q wt → wpY_chosen Q (nI R, nI C, nI K, nI F, nI L, st, fk, fs, fp, fi, fb, hd, fl, pg, ce, os, oc, ss, ed, re) (nI p) (nI R)) (hL : ∀ Q : Int32 → Prop, Q l → wpY_chosen Q (nI R, nI C, nI K, nI F, nI L, st, fk, fs, fp, fi, fb, hd, fl, pg, ce, os, oc, ss, ed, re) (nI p) (nI 0))
    (hr : (x2 = 2 ∧ fs = nI s ∧ l' = fi ∧ st' = 1) ∨ (¬ (x2 = 2 ∧ fs = nI s) ∧ l' = l ∧ st' = st)) (hf : (l' = wt ∧ fl' = fl) ∨ (¬ l' = wt ∧ fl' = 1))
    (h : wY_run_99 post (nI w) x2 n l' 0 (nI (s + 1)) (nI R) (nI C) (nI K) (nI F) (nI L) st' fk fs fp fi fb hd fl' pg ce os oc ss ed re) : wY_run_199 post (wY_run_99 post (nI w) x2 n) (nI w) x2 (nI p) 0 (nI s) o (nI R) (nI C) (nI K) (nI F) (nI L) st fk fs fp fi fb hd fl pg ce os oc ss ed re := by
  have z : wY_run_273 post (wY_run_99 post (nI w) x2 n) (nI w) x2 0 (nI s) wt l' (nI R) (nI C) (nI K) (nI F) (nI L) st' fk fs fp fi fb hd fl pg ce os oc ss ed re := by
    rcases hf with ⟨e, rfl⟩ | ⟨e, rfl⟩
    · exact br_t e (nm_r (nI_1 s) h)
    · exact br_f e (nm_r (nI_1 s) h)
  refine br_f h0 (br_t h11 (hW _ (hL _ ?_)))
  rcases hr with ⟨e1, e2, rfl, rfl⟩ | ⟨e1, rfl, rfl⟩
  · exact br_t e1 (br_t e2 z)
  · exact br_c (fun e => br_f (fun e' => e1 ⟨e, e'⟩) z) fun _ => z
theorem fd_y313 {post : Int32 → SY → Prop} {w p : Nat} {e : Int32} (hw : w < 2) (h : post e (nI R, nI C, nI K, nI F, nI L, st, fk, fs, fp, fi, fb, hd, fl, pg, ce, os, oc, upd ss w e, upd ed w (nI p), re)) : wY_run_313 post (nI w) (nI p) e (nI R) (nI C) (nI K) (nI F) (nI L) st fk fs fp fi fb hd fl pg ce os oc ss ed re := by
  have hv : vp_in (nI w) 2 := vp_in_nI hw (by decide)
  have hc : (nI w).toNatClampNeg = w := nI_clamp (by omega)
  exact ⟨hv, nm_r (e' := upd ss w e) (by rw [hc]) ⟨hv, nm_r (e' := upd ed w (nI p)) (by rw [hc]) h⟩⟩
theorem fd_xsrc {post : Int32 → SX → Prop} {s p n : Nat} {la' : Int32} {oc' os' ce' rg' : Nat → Int32} (hss : ss 0 = 0) (hF8 : F ≤ 128) (hs : s < F) (hp : p < 25)
    (hX : ∀ Q : SX → Prop, Q (nI R, nI C, nI K, nI F, nI (2 * R), nI L, hd, cl, fk, fs, fp, fi, fb, st, sd, nI p, la', nw, oA, aA, bA, cA, kO, kA, kB, kC, en, sg, ss, oc', ed, os', ce', rg') → wpX_perform Q (nI R, nI C, nI K, nI F, nI (2 * R), nI L, hd, cl, fk, fs, fp, fi, fb, st, sd, nI p, nI (p + 1), nw, oA, aA, bA, cA, kO, kA, kB, kC, en, sg, ss, oc, ed, os, ce, rg) (oA p) (aA p) (bA p) (cA p))
    (h : wX_runSource_16 post n (nI (s + 1)) (nI R) (nI C) (nI K) (nI F) (nI (2 * R)) (nI L) hd cl fk fs fp fi fb st sd la' la' nw oA aA bA cA kO kA kB kC en sg ss oc' ed os' ce' rg') : wX_runSource_16 post (n + 1) (nI s) (nI R) (nI C) (nI K) (nI F) (nI (2 * R)) (nI L) hd cl fk fs fp fi fb st sd (nI p) la nw oA aA bA cA kO kA kB kC en sg ss oc ed os ce rg := by
  have hv : vp_in (nI p) 25 := vp_in_nI hp (by decide)
  have hc : (nI p).toNatClampNeg = p := nI_clamp (by omega)
  refine br_f (nI_ge hs (by omega)) (br_t hss ?_)
  unfold wpX_sourceStep
  refine nm_r (nI_1 p) ⟨hv, hv, hv, hv, ?_⟩
  rw [hc]
  exact hX _ (br_t hss (nm_r (nI_1 s) h))
theorem fd_x43h {post : Int32 → SX → Prop} (h : post 1 (nI R, nI C, nI K, nI F, nI (2 * R), nI L, hd, cl, fk, fs, fp, fi, fb, st, sd, pl, la, nw, oA, aA, bA, cA, kO, kA, kB, kC, en, sg, upd ss 0 1, oc, upd ed 0 pl, os, ce, rg)) : wX_runSource_43 post (nI R) (nI C) (nI K) (nI F) (nI (2 * R)) (nI L) hd cl fk fs fp fi fb st sd pl la nw oA aA bA cA kO kA kB kC en sg (upd ss 0 1) oc ed os ce rg := by
  refine br_f (by rw [pk_us]; decide) ?_
  unfold wX_runSource_59
  rw [pk_us]
  exact nm_e h
theorem fd_x43o {post : Int32 → SX → Prop} (hss : ss 0 = 0) (h : post 2 (nI R, nI C, nI K, nI F, nI (2 * R), nI L, hd, cl, fk, fs, fp, fi, fb, st, sd, pl, la, nw, oA, aA, bA, cA, kO, kA, kB, kC, en, sg, upd ss 0 2, oc, upd ed 0 pl, os, ce, rg)) : wX_runSource_43 post (nI R) (nI C) (nI K) (nI F) (nI (2 * R)) (nI L) hd cl fk fs fp fi fb st sd pl la nw oA aA bA cA kO kA kB kC en sg ss oc ed os ce rg := by
  refine br_t hss (nm_e ?_)
  unfold wX_runSource_59
  rw [pk_us]
  exact nm_e h
theorem fd_xshalt {post : Int32 → SX → Prop} {s p n : Nat} (hss : ss 0 = 0) (hF8 : F ≤ 128) (hs : s < F) (hp : p < 25) (eo : oA p = 0)
    (h : post 1 (nI R, nI C, nI K, nI F, nI (2 * R), nI L, hd, cl, fk, fs, fp, fi, fb, st, 0, nI p, nI (p + 1), nw, oA, aA, bA, cA, kO, kA, kB, kC, en, sg, upd ss 0 1, oc, upd ed 0 (nI p), os, ce, rg)) : wX_runSource_16 post (n + 2) (nI s) (nI R) (nI C) (nI K) (nI F) (nI (2 * R)) (nI L) hd cl fk fs fp fi fb st 0 (nI p) la nw oA aA bA cA kO kA kB kC en sg ss oc ed os ce rg := by
  have hv : vp_in (nI p) 25 := vp_in_nI hp (by decide)
  have hc : (nI p).toNatClampNeg = p := nI_clamp (by omega)
  refine br_f (nI_ge hs (by omega)) (br_t hss ?_)
  unfold wpX_sourceStep
  refine nm_r (nI_1 p) ⟨hv, hv, hv, hv, ?_⟩
  rw [hc, eo]
  refine fd_p0 (w := 0) (by decide) ?_
  have hne : ¬ upd ss 0 1 0 = 0 := by rw [pk_us]; decide
  refine br_f hne (nm_r (nI_1 s) ?_)
  have z := fd_x43h h
  exact br_c (fun _ => z) fun _ => br_f hne z
theorem fd_SIu {x : Nat} {v : Int32} (hx : x < R) (h : ∀ i, i < R → rg i = re i ∧ re (R + i) = re i) : ∀ i, i < R → upd rg x v i = upd (upd re x v) (R + x) v i ∧ upd (upd re x v) (R + x) v (R + i) = upd (upd re x v) (R + x) v i := by
  intro i hi
  rw [pk_un (show i ≠ R + x from by omega)]
  by_cases e : i = x
  · rw [e, pk_us, pk_us, pk_us]
    exact ⟨rfl, rfl⟩
  · rw [pk_un e, pk_un e, pk_un (show R + i ≠ R + x from by omega), pk_un (show R + i ≠ x from by omega)]
    exact h i hi
theorem fd_Ocu {w n : Nat} (h : fd_Oc oc) (hn : n ≤ 128) : fd_Oc (upd oc w (nI n)) := by
  intro v hv
  by_cases e : v = w
  · exact ⟨n, hn, by rw [e, pk_us]⟩
  · obtain ⟨m, hm, em⟩ := h v hv
    exact ⟨m, hm, by rw [pk_un e]; exact em⟩
/-- one step of the source run, both sides: halted, or on -/
theorem fd_sstep {P : Prop} {s p : Nat} (hz : fd_Sz R C K F L) (hP : fd_Pg R K L oA aA bA cA pg) (hV : fd_VI R L (oA p) (aA p) (bA p) (cA p)) (hss : ss 0 = 0) (hs : s < F) (hI : fd_SI R L s p rg re oc)
    (H0 : oA p = 0 → P)
    (H1 : ∀ (p' : Nat) (os' oc' ce' rg' re' : Nat → Int32), fd_SI R L (s + 1) p' rg' re' oc' →
      (∀ (post : Int32 → SX → Prop) (n : Nat), wX_runSource_16 post n (nI (s + 1)) (nI R) (nI C) (nI K) (nI F) (nI (2 * R)) (nI L) hd cl fk fs fp fi fb st 0 (nI p') (nI p') nw oA aA bA cA kO kA kB kC en sg ss oc' ed os' ce' rg' → wX_runSource_16 post (n + 1) (nI s) (nI R) (nI C) (nI K) (nI F) (nI (2 * R)) (nI L) hd cl fk fs fp fi fb st 0 (nI p) la nw oA aA bA cA kO kA kB kC en sg ss oc ed os ce rg) →
      (∀ (post : Int32 → SY → Prop) (n : Nat) (ss : Nat → Int32), wY_run_99 post 0 0 n (nI p') 0 (nI (s + 1)) (nI R) (nI C) (nI K) (nI F) (nI L) st fk fs fp fi fb hd 0 pg ce' os' oc' ss ed re' → wY_run_99 post 0 0 (n + 1) (nI p) 0 (nI s) (nI R) (nI C) (nI K) (nI F) (nI L) st fk fs fp fi fb hd 0 pg ce os oc ss ed re) → P) : P := by
  unfold fd_Sz at hz
  obtain ⟨hp, hreg, ⟨cn, hcn, ecn⟩, hOc⟩ := hI
  have hcl : ∀ i, i < R → re i = re (R + i) := fun i hi => (hreg i hi).2.symm
  have hL24 : L ≤ 24 := by omega
  have hR8 : R ≤ 8 := by omega
  have hF8 : F ≤ 128 := by omega
  have hp25 : p < 25 := by omega
  have hpl : ¬ oA p = 0 → p + 1 ≤ L := by
    intro hne
    have : p ≠ L := fun e => hne (hP.2.1 p (by omega) hp25).1
    omega
  have hcn' : ∃ n, n ≤ s + 1 ∧ oc 0 = nI n := ⟨cn, by omega, ecn⟩
  rcases hV with ⟨eo, ea, eb, ec⟩ | ⟨eo, x, hx, ea, ec⟩ | ⟨k, h2, h7, eo, x, y, z, hx, hy, hz', ea, eb, ec⟩ | ⟨eo, x, y, hx, hy, ea, eb, ec⟩ | ⟨eo, x, y, hx, hy, ea, eb, ec⟩ | ⟨eo, x, hx, ea, eb, ec⟩ | ⟨eo, t, ht, ea, eb, ec⟩ | ⟨eo, x, t, hx, ht, ea, eb, ec⟩ | ⟨eo, x, y, t, hx, hy, ht, ea, eb, ec⟩
  · exact H0 eo
  · have hp1 := hpl (by rw [eo]; decide)
    refine H1 (p + 1) os oc ce (upd rg x (bA p)) (upd (upd re x (bA p)) (R + x) (bA p)) ⟨hp1, fd_SIu hx hreg, hcn', hOc⟩ (fun post n h => ?_) (fun post n ss h => ?_)
    · exact fd_xsrc hss hF8 hs hp25 (fun Q hQ => by rw [eo, ea]; exact fd_p1 (by omega) hQ) h
    · exact fd_ysrc hP hR8 hL24 hF8 hp hs hcl (fd_y199s (w := 0) (by rw [eo]; decide) (by rw [eo]; decide) (fun Q hQ => fd_yp1 hP hR8 hL24 hp eo ea rfl hx hQ) h)
  · have hne : ∀ m, m ≤ 13 → k ≠ m → ¬ oA p = nI m := fun m hm hkm hz => hkm ((nI_eq (by omega) (by omega)).mp (eo.symm.trans hz))
    have hp1 := hpl (hne 0 (by omega) (by omega))
    have e1 : fd_cmp k (rg y) (rg z) = fd_cmp k (re y) (re z) := by rw [(hreg y hy).1, (hreg z hz').1]
    have e2 : fd_cmp k (re (R + y)) (re (R + z)) = fd_cmp k (re y) (re z) := by rw [(hreg y hy).2, (hreg z hz').2]
    refine H1 (p + 1) os oc ce (upd rg x (fd_cmp k (re y) (re z))) (upd (upd re x (fd_cmp k (re y) (re z))) (R + x) (fd_cmp k (re y) (re z))) ⟨hp1, fd_SIu hx hreg, hcn', hOc⟩ (fun post n h => ?_) (fun post n ss h => ?_)
    · exact fd_xsrc hss hF8 hs hp25 (fun Q hQ => by rw [eo, ea, eb, ec]; exact fd_pc h2 h7 (by omega) (by omega) (by omega) (by rw [e1]; exact hQ)) h
    · exact fd_ysrc hP hR8 hL24 hF8 hp hs hcl (fd_y199s (w := 0) (hne 0 (by omega) (by omega)) (by rw [eo]; exact nI_ge (b := 11) (by omega) (by decide)) (fun Q hQ => fd_ypc hP hR8 hL24 hp h2 h7 eo ea eb ec hx hy hz' (by rw [e2]; exact hQ)) h)
  · have hp1 := hpl (by rw [eo]; decide)
    have e1 : fd_ld C 0 ce (rg y) = fd_ld C 0 ce (re y) := by rw [(hreg y hy).1]
    refine H1 (p + 1) os oc ce (upd rg x (fd_ld C 0 ce (re y))) (upd (upd re x (fd_ld C 0 ce (re y))) (R + x) (fd_ld C 0 ce (re y))) ⟨hp1, fd_SIu hx hreg, hcn', hOc⟩ (fun post n h => ?_) (fun post n ss h => ?_)
    · exact fd_xsrc hss hF8 hs hp25 (fun Q hQ => by rw [eo, ea, eb]; exact fd_p8 (w := 0) (by decide) (by omega) (by omega) (by omega) (by omega) (by rw [e1]; exact hQ)) h
    · exact fd_ysrc hP hR8 hL24 hF8 hp hs hcl (fd_y199s (w := 0) (by rw [eo]; decide) (by rw [eo]; decide) (fun Q hQ => fd_yp8 hP hR8 (by omega) hL24 hp (by decide) eo ea eb hx hy hQ) h)
  · have hp1 := hpl (by rw [eo]; decide)
    have e1 : fd_st C 0 ce (rg x) (rg y) = fd_st C 0 ce (re x) (re y) := by rw [(hreg x hx).1, (hreg y hy).1]
    refine H1 (p + 1) os oc (fd_st C 0 ce (re x) (re y)) rg re ⟨hp1, hreg, hcn', hOc⟩ (fun post n h => ?_) (fun post n ss h => ?_)
    · exact fd_xsrc hss hF8 hs hp25 (fun Q hQ => by rw [eo, ea, eb]; exact fd_p9 (w := 0) (by decide) (by omega) (by omega) (by omega) (by omega) (by rw [e1]; exact hQ)) h
    · exact fd_ysrc hP hR8 hL24 hF8 hp hs hcl (fd_y199s (w := 0) (by rw [eo]; decide) (by rw [eo]; decide) (fun Q hQ => fd_yp9 hP hR8 (by omega) hL24 hp (by decide) eo ea eb hx hy hQ) h)
  · have hp1 := hpl (by rw [eo]; decide)
    refine H1 (p + 1) (upd os (128 * 0 + cn) (re x)) (upd oc 0 (nI (cn + 1))) ce rg re ⟨hp1, hreg, ⟨cn + 1, by omega, pk_us⟩, fd_Ocu hOc (by omega)⟩ (fun post n h => ?_) (fun post n ss h => ?_)
    · exact fd_xsrc hss hF8 hs hp25 (fun Q hQ => by rw [eo, ea]; exact fd_p10 (w := 0) (by decide) (by omega) (by omega) ecn (by rw [(hreg x hx).1]; exact hQ)) h
    · exact fd_ysrc hP hR8 hL24 hF8 hp hs hcl (fd_y199s (w := 0) (by rw [eo]; decide) (by rw [eo]; decide) (fun Q hQ => fd_yp10 hP hR8 hL24 hp (by decide) eo ea hx (by omega) ecn hQ) h)
  · refine H1 t os oc ce rg re ⟨ht, hreg, hcn', hOc⟩ (fun post n h => ?_) (fun post n ss h => ?_)
    · exact fd_xsrc hss hF8 hs hp25 (fun Q hQ => by rw [eo, ea]; exact fd_p11 hQ) h
    · exact fd_ysrc hP hR8 hL24 hF8 hp hs hcl (fd_y199b (w := 0) (by rw [eo]; decide) (by rw [eo]; decide) (fun Q hQ => fd_yb11 hP hL24 hp eo ea hQ) (fun Q hQ => fd_yb11 hP hL24 hp eo ea hQ) (Or.inr ⟨fun z => absurd z.1 (by decide), rfl, rfl⟩) (Or.inl ⟨rfl, rfl⟩) h)
  · have hp1 := hpl (by rw [eo]; decide)
    have hv : ∃ q, q ≤ L ∧ (if re x = 0 then nI t else nI (p + 1)) = nI q := by
      by_cases h0 : re x = 0
      · exact ⟨t, ht, if_pos h0⟩
      · exact ⟨p + 1, hp1, if_neg h0⟩
    obtain ⟨q, hq, eq⟩ := hv
    refine H1 q os oc ce rg re ⟨hq, hreg, hcn', hOc⟩ (fun post n h => ?_) (fun post n ss h => ?_)
    · exact fd_xsrc hss hF8 hs hp25 (fun Q hQ => by rw [eo, ea, eb]; exact fd_p12 (by omega) (by rw [(hreg x hx).1, eq]; exact hQ)) h
    · exact fd_ysrc hP hR8 hL24 hF8 hp hs hcl (fd_y199b (w := 0) (by rw [eo]; decide) (by rw [eo]; decide) (fun Q hQ => fd_yb12 hP hL24 hp eo ea eb (by omega) (by rw [(hreg x hx).2, eq]; exact hQ)) (fun Q hQ => fd_yb12 hP hL24 hp eo ea eb (by omega) (by rw [Nat.zero_add, eq]; exact hQ)) (Or.inr ⟨fun z => absurd z.1 (by decide), rfl, rfl⟩) (Or.inl ⟨rfl, rfl⟩) h)
  · have hp1 := hpl (by rw [eo]; decide)
    have hv : ∃ q, q ≤ L ∧ (if re y ≤ re x then nI (p + 1) else nI t) = nI q := by
      by_cases h0 : re y ≤ re x
      · exact ⟨p + 1, hp1, if_pos h0⟩
      · exact ⟨t, ht, if_neg h0⟩
    obtain ⟨q, hq, eq⟩ := hv
    refine H1 q os oc ce rg re ⟨hq, hreg, hcn', hOc⟩ (fun post n h => ?_) (fun post n ss h => ?_)
    · exact fd_xsrc hss hF8 hs hp25 (fun Q hQ => by rw [eo, ea, eb, ec]; exact fd_p13 (by omega) (by omega) (by rw [(hreg x hx).1, (hreg y hy).1, eq]; exact hQ)) h
    · exact fd_ysrc hP hR8 hL24 hF8 hp hs hcl (fd_y199b (w := 0) (by rw [eo]; decide) (by rw [eo]; decide) (fun Q hQ => fd_yb13 hP hL24 hp eo ea eb ec (by omega) (by omega) (by rw [(hreg x hx).2, (hreg y hy).2, eq]; exact hQ)) (fun Q hQ => fd_yb13 hP hL24 hp eo ea eb ec (by omega) (by omega) (by rw [Nat.zero_add, Nat.zero_add, eq]; exact hQ)) (Or.inr ⟨fun z => absurd z.1 (by decide), rfl, rfl⟩) (Or.inl ⟨rfl, rfl⟩) h)
theorem fd_srun (hz : fd_Sz R C K F L) (hP : fd_Pg R K L oA aA bA cA pg) (hV : ∀ p, p < 25 → fd_VI R L (oA p) (aA p) (bA p) (cA p)) : ∀ (d s p : Nat) (la : Int32) (os oc ce rg re : Nat → Int32), s + d = F → fd_SI R L s p rg re oc →
    ∃ (e : Int32) (p' : Nat) (la' : Int32) (os' oc' ce' rg' re' : Nat → Int32), fd_Oc oc' ∧
      (∀ (post : Int32 → SX → Prop) (n : Nat), d < n → post e (nI R, nI C, nI K, nI F, nI (2 * R), nI L, hd, cl, fk, fs, fp, fi, fb, st, 0, nI p', la', nw, oA, aA, bA, cA, kO, kA, kB, kC, en, sg, upd ss 0 e, oc', upd ed 0 (nI p'), os', ce', rg') → wX_runSource_16 post n (nI s) (nI R) (nI C) (nI K) (nI F) (nI (2 * R)) (nI L) hd cl fk fs fp fi fb st 0 (nI p) la nw oA aA bA cA kO kA kB kC en sg (upd ss 0 0) oc ed os ce rg) ∧
      (∀ (post : Int32 → SY → Prop) (n : Nat), d < n → post e (nI R, nI C, nI K, nI F, nI L, st, fk, fs, fp, fi, fb, hd, 0, pg, ce', os', oc', upd ss 0 e, upd ed 0 (nI p'), re') → wY_run_99 post 0 0 n (nI p) 0 (nI s) (nI R) (nI C) (nI K) (nI F) (nI L) st fk fs fp fi fb hd 0 pg ce os oc ss ed re) := by
  have hz2 := hz
  unfold fd_Sz at hz2
  intro d
  induction d with
  | zero =>
    intro s p la os oc ce rg re hs hI
    refine ⟨2, p, la, os, oc, ce, rg, re, hI.2.2.2, fun post n hn h => ?_, fun post n hn h => ?_⟩
    · obtain ⟨n, rfl, hm⟩ := fd_suc hn
      refine br_t (nI_le (by omega) (by omega)) (fd_x43o pk_us ?_)
      rw [fd_uu]
      exact h
    · obtain ⟨n, rfl, hm⟩ := fd_suc hn
      exact br_t (nI_le (by omega) (by omega)) (br_t rfl (br_t rfl (fd_y313 (w := 0) (by decide) h)))
  | succ d ih =>
    intro s p la os oc ce rg re hs hI
    have hp25 : p < 25 := by
      have := hI.1
      omega
    have hcl : ∀ i, i < R → re i = re (R + i) := fun i hi => (hI.2.1 i hi).2.symm
    refine fd_sstep (ss := upd ss 0 0) (ed := ed) (la := la) (hd := hd) (cl := cl) (fk := fk) (fs := fs) (fp := fp) (fi := fi) (fb := fb) (st := st) (nw := nw) (kO := kO) (kA := kA) (kB := kB) (kC := kC) (en := en) (sg := sg) (os := os) (ce := ce) hz hP (hV p hp25) pk_us (by omega) hI (fun h0 => ?_) (fun p' os' oc' ce' rg' re' hI' hX hY => ?_)
    · refine ⟨1, p, nI (p + 1), os, oc, ce, rg, re, hI.2.2.2, fun post n hn h => ?_, fun post n hn h => ?_⟩
      · obtain ⟨n, rfl⟩ : ∃ m, n = m + 2 := ⟨n - 2, by omega⟩
        refine fd_xshalt pk_us (by omega) (by omega) hp25 h0 ?_
        rw [fd_uu]
        exact h
      · obtain ⟨n, rfl, hm⟩ := fd_suc hn
        refine fd_ysrc hP (by omega) (by omega) (by omega) hI.1 (by omega) hcl (br_t h0 ?_)
        exact br_f (by decide) (fd_y313 (w := 0) (by decide) h)
    · obtain ⟨e, p2, la2, os2, oc2, ce2, rg2, re2, hOc, hX2, hY2⟩ := ih (s + 1) p' (nI p') os' oc' ce' rg' re' (by omega) hI'
      refine ⟨e, p2, la2, os2, oc2, ce2, rg2, re2, hOc, fun post n hn h => ?_, fun post n hn h => ?_⟩
      · obtain ⟨n, rfl, hm⟩ := fd_suc hn
        exact hX post n (hX2 post n (by omega) h)
      · obtain ⟨n, rfl, hm⟩ := fd_suc hn
        exact hY post n ss (hY2 post n (by omega) h)
theorem fd_vrunSource {k : Nat} (h : fd_F R C K F L hd fk fi fb oA aA bA cA kO kA kB kC en sg oc pg) : wpX_runSource (fun r u' => wpY_runSource (fun r' v' => r' = r ∧ i_Rel (k + 5) u' v') (nI R, nI C, nI K, nI F, nI L, st, fk, fs, fp, fi, fb, hd, fl, pg, ce, os, oc, ss, ed, re)) (nI R, nI C, nI K, nI F, nI (2 * R), nI L, hd, cl, fk, fs, fp, fi, fb, st, sd, pl, la, nw, oA, aA, bA, cA, kO, kA, kB, kC, en, sg, ss, oc, ed, os, ce, rg) := by
  have hs := h.1
  unfold fd_Sz at hs
  have hOc := h.2.2.2.1
  unfold wpX_runSource
  rcases h.2.2.2.2 with hh | ⟨hh, hHd⟩
  · refine br_t hh ?_
    unfold wpY_runSource wpY_run
    exact br_t hh ⟨rfl, fd_in h⟩
  · have hn0 : ¬ hd = 0 := by rw [hh]; decide
    refine br_f hn0 (fd_xbegin (w := 0) (by decide) ?_)
    have hI : fd_SI R L 0 0 (fd_fl rg 0 17 0) (fd_fl re 0 16 0) (upd oc 0 0) := by
      refine ⟨Nat.zero_le _, fun i hi => ?_, ⟨0, Nat.le_refl _, pk_us⟩, fd_Ocu (n := 0) hOc (by omega)⟩
      rw [fd_fli (by omega) (by omega), fd_fli (by omega) (by omega), fd_fli (by omega) (by omega)]
      exact ⟨rfl, rfl⟩
    obtain ⟨e, p', la', os', oc', ce', rg', re', hOc', hX, hY⟩ := fd_srun (ss := ss) (ed := ed) (hd := hd) (cl := cl) (fk := fk) (fs := fs) (fp := fp) (fi := fi) (fb := fb) (st := st) (nw := nw) (kO := kO) (kA := kA) (kB := kB) (kC := kC) (en := en) (sg := sg) h.1 h.2.1 hHd.2.1 F 0 0 la os (upd oc 0 0) (fd_cp ce 0 16) (fd_fl rg 0 17 0) (fd_fl re 0 16 0) (by omega) hI
    refine ⟨F + 1, hX _ (F + 1) (by omega) ?_⟩
    unfold wpY_runSource wpY_run
    refine br_f hn0 (br_f (by decide) ⟨17, ?_⟩)
    refine fd_yr31 (w := 0) (by decide) (br_f (by decide) ⟨F + 1, ?_⟩) 16 0 17 ce re (by decide) (by decide) fd_cp0.symm fd_fl0.symm
    refine hY _ (F + 1) (by omega) ?_
    exact ⟨rfl, fd_in ⟨h.1, h.2.1, h.2.2.1, hOc', h.2.2.2.2⟩⟩
end
section
variable {R C K F L : Nat} {hd cl fk fs fp fi fb st sd pl la nw fl : Int32} {oA aA bA cA kO kA kB kC en sg ss oc ed os ce rg pg re : Nat → Int32}
/-! the guarded code of one place, run as a list -/
def fd_At (i : Nat) (l : List fd_Q) (kO kA kB kC : Nat → Int32) : Prop := ∀ j, j < l.length → l[j]? = some (kO (i + j), kA (i + j), kB (i + j), kC (i + j))
theorem fd_AtI {a l b : List fd_Q} (h : fd_Is (a ++ (l ++ b)) kO kA kB kC) : fd_At a.length l kO kA kB kC := by
  intro j hj
  have z := h (a.length + j) (by rw [List.length_append, List.length_append]; omega)
  rw [List.getElem?_append_right (by omega), Nat.add_sub_cancel_left, List.getElem?_append_left hj] at z
  exact z
theorem fd_allI {n p : Nat} (hp : p < n) : ∃ b, fd_all R oA aA bA cA n = fd_all R oA aA bA cA p ++ (fd_code R p (oA p) (aA p) (bA p) (cA p) ++ b) := by
  induction n with
  | zero => exact absurd hp (by omega)
  | succ n ih =>
    by_cases e : p = n
    · subst e
      exact ⟨[], by rw [List.append_nil]; rfl⟩
    · obtain ⟨b, hb⟩ := ih (by omega)
      refine ⟨b ++ fd_code R n (oA n) (aA n) (bA n) (cA n), ?_⟩
      show fd_all R oA aA bA cA n ++ fd_code R n (oA n) (aA n) (bA n) (cA n) = _
      rw [hb, List.append_assoc, List.append_assoc]
def fd_Run (post : SX → Prop) (l : List fd_Q) (g1 g2 g3 g4 g5 g6 g7 g8 g9 g10 g11 g12 g13 g14 g15 g16 g17 g18 : Int32) (g19 g20 g21 g22 g23 g24 g25 g26 g27 g28 g29 g30 g31 g32 g33 g34 : Nat → Int32) : Prop :=
  ∀ i n : Nat, fd_At i l g23 g24 g25 g26 → i + l.length ≤ 200 → l.length < n → wX_hardStep_32 post (nI (i + l.length)) n (nI i) g1 g2 g3 g4 g5 g6 g7 g8 g9 g10 g11 g12 g13 g14 g15 g16 g17 g18 g19 g20 g21 g22 g23 g24 g25 g26 g27 g28 g29 g30 g31 g32 g33 g34
theorem fd_rnil {post : SX → Prop} (hss : ss 1 = 0) (h : post (nI R, nI C, nI K, nI F, nI (2 * R), nI L, hd, cl, fk, fs, fp, fi, fb, st, sd, la, la, nw, oA, aA, bA, cA, kO, kA, kB, kC, en, sg, ss, oc, ed, os, ce, rg)) : fd_Run post [] (nI R) (nI C) (nI K) (nI F) (nI (2 * R)) (nI L) hd cl fk fs fp fi fb st sd pl la nw oA aA bA cA kO kA kB kC en sg ss oc ed os ce rg := by
  intro i n _ hi hn
  obtain ⟨n, rfl, hm⟩ := fd_suc hn
  exact br_t (nI_le (a := i) (b := i) (Nat.le_refl _) (by omega)) (br_t hss h)
theorem fd_rstop {post : SX → Prop} {l : List fd_Q} (hss : ¬ ss 1 = 0) (h : post (nI R, nI C, nI K, nI F, nI (2 * R), nI L, hd, cl, fk, fs, fp, fi, fb, st, sd, pl, la, nw, oA, aA, bA, cA, kO, kA, kB, kC, en, sg, ss, oc, ed, os, ce, rg)) : fd_Run post l (nI R) (nI C) (nI K) (nI F) (nI (2 * R)) (nI L) hd cl fk fs fp fi fb st sd pl la nw oA aA bA cA kO kA kB kC en sg ss oc ed os ce rg := by
  intro i n _ hi hn
  obtain ⟨n, rfl, hm⟩ := fd_suc hn
  have z : wX_hardStep_57 post (nI R) (nI C) (nI K) (nI F) (nI (2 * R)) (nI L) hd cl fk fs fp fi fb st sd pl la nw oA aA bA cA kO kA kB kC en sg ss oc ed os ce rg := br_f hss h
  exact br_c (fun _ => z) fun _ => br_f hss z
theorem fd_rcons {post : SX → Prop} {t : List fd_Q} {o a b c st' la' : Int32} {ss' oc' os' ce' rg' : Nat → Int32} (hss : ss 1 = 0)
    (H : ∀ (Q : SX → Prop) (i : Nat), i < 200 → kO i = o → kA i = a → kB i = b → kC i = c → Q (nI R, nI C, nI K, nI F, nI (2 * R), nI L, hd, cl, fk, fs, fp, fi, fb, st', sd, pl, la', nw, oA, aA, bA, cA, kO, kA, kB, kC, en, sg, ss', oc', ed, os', ce', rg') → wpX_hardCode Q (nI R, nI C, nI K, nI F, nI (2 * R), nI L, hd, cl, fk, fs, fp, fi, fb, st, sd, pl, la, nw, oA, aA, bA, cA, kO, kA, kB, kC, en, sg, ss, oc, ed, os, ce, rg) (nI i))
    (h : fd_Run post t (nI R) (nI C) (nI K) (nI F) (nI (2 * R)) (nI L) hd cl fk fs fp fi fb st' sd pl la' nw oA aA bA cA kO kA kB kC en sg ss' oc' ed os' ce' rg') : fd_Run post ((o, a, b, c) :: t) (nI R) (nI C) (nI K) (nI F) (nI (2 * R)) (nI L) hd cl fk fs fp fi fb st sd pl la nw oA aA bA cA kO kA kB kC en sg ss oc ed os ce rg := by
  intro i n hA hi hn
  have hlen : ((o, a, b, c) :: t : List fd_Q).length = t.length + 1 := rfl
  rw [hlen] at hi hn
  obtain ⟨n, rfl, hm⟩ := fd_suc hn
  have h0 : some (o, a, b, c) = some (kO i, kA i, kB i, kC i) := hA 0 (by rw [hlen]; omega)
  have e := Option.some.inj h0
  have e1 : kO i = o := (congrArg (fun q => q.1) e).symm
  have e2 : kA i = a := (congrArg (fun q => q.2.1) e).symm
  have e3 : kB i = b := (congrArg (fun q => q.2.2.1) e).symm
  have e4 : kC i = c := (congrArg (fun q => q.2.2.2) e).symm
  have el : i + ((o, a, b, c) :: t : List fd_Q).length = i + 1 + t.length := by rw [hlen]; omega
  rw [el]
  refine br_f (nI_ge (by omega) (by omega)) (br_t hss (H _ i (by omega) e1 e2 e3 e4 ?_))
  refine nm_r (nI_1 i) ?_
  refine h (i + 1) n (fun j hj => ?_) (by omega) (by omega)
  have z := hA (j + 1) (by rw [hlen]; omega)
  rw [show i + 1 + j = i + (j + 1) from by omega]
  exact z
theorem fd_hcg {o a b c st' la' : Int32} {ss' oc' os' ce' rg' : Nat → Int32} (ho : ¬ o < 14) (hG : ∀ Q : SX → Prop, Q (nI R, nI C, nI K, nI F, nI (2 * R), nI L, hd, cl, fk, fs, fp, fi, fb, st', sd, pl, la', nw, oA, aA, bA, cA, kO, kA, kB, kC, en, sg, ss', oc', ed, os', ce', rg') → wpX_guard Q (nI R, nI C, nI K, nI F, nI (2 * R), nI L, hd, cl, fk, fs, fp, fi, fb, st, sd, pl, la, nw, oA, aA, bA, cA, kO, kA, kB, kC, en, sg, ss, oc, ed, os, ce, rg) o a b c) :
    ∀ (Q : SX → Prop) (i : Nat), i < 200 → kO i = o → kA i = a → kB i = b → kC i = c → Q (nI R, nI C, nI K, nI F, nI (2 * R), nI L, hd, cl, fk, fs, fp, fi, fb, st', sd, pl, la', nw, oA, aA, bA, cA, kO, kA, kB, kC, en, sg, ss', oc', ed, os', ce', rg') → wpX_hardCode Q (nI R, nI C, nI K, nI F, nI (2 * R), nI L, hd, cl, fk, fs, fp, fi, fb, st, sd, pl, la, nw, oA, aA, bA, cA, kO, kA, kB, kC, en, sg, ss, oc, ed, os, ce, rg) (nI i) := by
  intro Q i hi e1 e2 e3 e4 h
  have hv : vp_in (nI i) 200 := vp_in_nI hi (by decide)
  have hc : (nI i).toNatClampNeg = i := nI_clamp (by omega)
  unfold wpX_hardCode
  refine ⟨hv, nm_r (e' := o) (by rw [hc]; exact e1) (br_f ho ⟨hv, hv, hv, ?_⟩)⟩
  rw [hc, e2, e3, e4]
  exact hG _ h
theorem fd_hcp {o a b c st' la' : Int32} {ss' oc' os' ce' rg' : Nat → Int32} (h14 : o < 14) (h11 : o < 11) (hG : ∀ Q : SX → Prop, Q (nI R, nI C, nI K, nI F, nI (2 * R), nI L, hd, cl, fk, fs, fp, fi, fb, st', sd, pl, la', nw, oA, aA, bA, cA, kO, kA, kB, kC, en, sg, ss', oc', ed, os', ce', rg') → wpX_perform Q (nI R, nI C, nI K, nI F, nI (2 * R), nI L, hd, cl, fk, fs, fp, fi, fb, st, sd, pl, la, nw, oA, aA, bA, cA, kO, kA, kB, kC, en, sg, ss, oc, ed, os, ce, rg) o a b c) :
    ∀ (Q : SX → Prop) (i : Nat), i < 200 → kO i = o → kA i = a → kB i = b → kC i = c → Q (nI R, nI C, nI K, nI F, nI (2 * R), nI L, hd, cl, fk, fs, fp, fi, fb, st', sd, pl, la', nw, oA, aA, bA, cA, kO, kA, kB, kC, en, sg, ss', oc', ed, os', ce', rg') → wpX_hardCode Q (nI R, nI C, nI K, nI F, nI (2 * R), nI L, hd, cl, fk, fs, fp, fi, fb, st, sd, pl, la, nw, oA, aA, bA, cA, kO, kA, kB, kC, en, sg, ss, oc, ed, os, ce, rg) (nI i) := by
  intro Q i hi e1 e2 e3 e4 h
  have hv : vp_in (nI i) 200 := vp_in_nI hi (by decide)
  have hc : (nI i).toNatClampNeg = i := nI_clamp (by omega)
  unfold wpX_hardCode
  refine ⟨hv, nm_r (e' := o) (by rw [hc]; exact e1) (br_t h14 ⟨hv, hv, hv, ?_⟩)⟩
  rw [hc, e2, e3, e4]
  exact hG _ (br_t h11 h)
theorem fd_hcb {o a b c l st' la' : Int32} (h14 : o < 14) (h11 : ¬ o < 11) (hG : ∀ Q : SX → Prop, Q (nI R, nI C, nI K, nI F, nI (2 * R), nI L, hd, cl, fk, fs, fp, fi, fb, st, sd, pl, l, nw, oA, aA, bA, cA, kO, kA, kB, kC, en, sg, ss, oc, ed, os, ce, rg) → wpX_perform Q (nI R, nI C, nI K, nI F, nI (2 * R), nI L, hd, cl, fk, fs, fp, fi, fb, st, sd, pl, la, nw, oA, aA, bA, cA, kO, kA, kB, kC, en, sg, ss, oc, ed, os, ce, rg) o a b c)
    (hr : (fk = 2 ∧ fs = nw ∧ la' = fi ∧ st' = 1) ∨ (¬ (fk = 2 ∧ fs = nw) ∧ la' = l ∧ st' = st)) :
    ∀ (Q : SX → Prop) (i : Nat), i < 200 → kO i = o → kA i = a → kB i = b → kC i = c → Q (nI R, nI C, nI K, nI F, nI (2 * R), nI L, hd, cl, fk, fs, fp, fi, fb, st', sd, pl, la', nw, oA, aA, bA, cA, kO, kA, kB, kC, en, sg, ss, oc, ed, os, ce, rg) → wpX_hardCode Q (nI R, nI C, nI K, nI F, nI (2 * R), nI L, hd, cl, fk, fs, fp, fi, fb, st, sd, pl, la, nw, oA, aA, bA, cA, kO, kA, kB, kC, en, sg, ss, oc, ed, os, ce, rg) (nI i) := by
  intro Q i hi e1 e2 e3 e4 h
  have hv : vp_in (nI i) 200 := vp_in_nI hi (by decide)
  have hc : (nI i).toNatClampNeg = i := nI_clamp (by omega)
  unfold wpX_hardCode
  refine ⟨hv, nm_r (e' := o) (by rw [hc]; exact e1) (br_t h14 ⟨hv, hv, hv, ?_⟩)⟩
  rw [hc, e2, e3, e4]
  refine hG _ (br_f h11 ?_)
  unfold wpX_strikeRedirect
  rcases hr with ⟨z1, z2, rfl, rfl⟩ | ⟨z1, rfl, rfl⟩
  · exact br_t z1 (br_t z2 h)
  · exact br_c (fun e => br_f (fun e' => z1 ⟨e, e'⟩) h) fun _ => h
/-! the guards -/
theorem fd_g14 {Q : SX → Prop} {a b c : Int32} (hR8 : R ≤ 8) (he : rg (2 * R) = a) (h : Q (nI R, nI C, nI K, nI F, nI (2 * R), nI L, hd, cl, fk, fs, fp, fi, fb, st, sd, pl, la, nw, oA, aA, bA, cA, kO, kA, kB, kC, en, sg, ss, oc, ed, os, ce, rg)) : wpX_guard Q (nI R, nI C, nI K, nI F, nI (2 * R), nI L, hd, cl, fk, fs, fp, fi, fb, st, sd, pl, la, nw, oA, aA, bA, cA, kO, kA, kB, kC, en, sg, ss, oc, ed, os, ce, rg) 14 a b c :=
  br_f (by decide) (br_f (by decide) (br_t rfl (⟨vp_in_nI (by omega) (by decide), br_t (by rw [nI_clamp (by omega)]; exact he) h⟩)))
theorem fd_g14b {Q : SX → Prop} {a b c : Int32} (hR8 : R ≤ 8) (he : ¬ rg (2 * R) = a) (h : Q (nI R, nI C, nI K, nI F, nI (2 * R), nI L, hd, cl, fk, fs, fp, fi, fb, st, sd, pl, la, nw, oA, aA, bA, cA, kO, kA, kB, kC, en, sg, upd ss 1 4, oc, ed, os, ce, rg)) : wpX_guard Q (nI R, nI C, nI K, nI F, nI (2 * R), nI L, hd, cl, fk, fs, fp, fi, fb, st, sd, pl, la, nw, oA, aA, bA, cA, kO, kA, kB, kC, en, sg, ss, oc, ed, os, ce, rg) 14 a b c :=
  br_f (by decide) (br_f (by decide) (br_t rfl (⟨vp_in_nI (by omega) (by decide), br_f (by rw [nI_clamp (by omega)]; exact he) (nm_e h)⟩)))
theorem fd_g15 {Q : SX → Prop} {x : Nat} {b c : Int32} (hR8 : R ≤ 8) (hx : x < R) (he : rg x = rg (R + x)) (h : Q (nI R, nI C, nI K, nI F, nI (2 * R), nI L, hd, cl, fk, fs, fp, fi, fb, st, sd, pl, la, nw, oA, aA, bA, cA, kO, kA, kB, kC, en, sg, ss, oc, ed, os, ce, rg)) : wpX_guard Q (nI R, nI C, nI K, nI F, nI (2 * R), nI L, hd, cl, fk, fs, fp, fi, fb, st, sd, pl, la, nw, oA, aA, bA, cA, kO, kA, kB, kC, en, sg, ss, oc, ed, os, ce, rg) 15 (nI x) b c :=
  br_f (by decide) (br_f (by decide) (br_f (by decide) (br_t rfl (⟨vp_in_nI (by omega) (by decide), by rw [nI_add]; exact vp_in_nI (by omega) (by decide), br_t (by rw [nI_add, nI_clamp (by omega), nI_clamp (by omega), Nat.add_comm x R]; exact he) h⟩))))
theorem fd_g15b {Q : SX → Prop} {x : Nat} {b c : Int32} (hR8 : R ≤ 8) (hx : x < R) (he : ¬ rg x = rg (R + x)) (h : Q (nI R, nI C, nI K, nI F, nI (2 * R), nI L, hd, cl, fk, fs, fp, fi, fb, st, sd, pl, la, nw, oA, aA, bA, cA, kO, kA, kB, kC, en, sg, upd ss 1 3, oc, ed, os, ce, rg)) : wpX_guard Q (nI R, nI C, nI K, nI F, nI (2 * R), nI L, hd, cl, fk, fs, fp, fi, fb, st, sd, pl, la, nw, oA, aA, bA, cA, kO, kA, kB, kC, en, sg, ss, oc, ed, os, ce, rg) 15 (nI x) b c :=
  br_f (by decide) (br_f (by decide) (br_f (by decide) (br_t rfl (⟨vp_in_nI (by omega) (by decide), by rw [nI_add]; exact vp_in_nI (by omega) (by decide), br_f (by rw [nI_add, nI_clamp (by omega), nI_clamp (by omega), Nat.add_comm x R]; exact he) (nm_e h)⟩))))
theorem fd_g16n {Q : SX → Prop} {a b c : Int32} (hn : ¬ (fk = 1 ∧ fs = nw ∧ fp = a)) (h : Q (nI R, nI C, nI K, nI F, nI (2 * R), nI L, hd, cl, fk, fs, fp, fi, fb, st, sd, pl, la, nw, oA, aA, bA, cA, kO, kA, kB, kC, en, sg, ss, oc, ed, os, ce, rg)) : wpX_guard Q (nI R, nI C, nI K, nI F, nI (2 * R), nI L, hd, cl, fk, fs, fp, fi, fb, st, sd, pl, la, nw, oA, aA, bA, cA, kO, kA, kB, kC, en, sg, ss, oc, ed, os, ce, rg) 16 a b c :=
  br_f (by decide) (br_f (by decide) (br_f (by decide) (br_f (by decide) (br_t rfl (br_c (fun e1 => br_c (fun e2 => br_f (fun e3 => hn ⟨e1, e2, e3⟩) h) fun _ => h) fun _ => h)))))
theorem fd_g16y {Q : SX → Prop} {i : Nat} {a b c st' : Int32} (hR8 : R ≤ 8) (hi : i ≤ 2 * R) (hy : fk = 1 ∧ fs = nw ∧ fp = a)
    (hs : (((b >>> (nI i &&& 31)) &&& 1) = 1 ∧ st' = 2) ∨ (¬ ((b >>> (nI i &&& 31)) &&& 1) = 1 ∧ st' = 1)) (h : Q (nI R, nI C, nI K, nI F, nI (2 * R), nI L, hd, cl, fk, fs, fp, nI i, fb, st', sd, pl, la, nw, oA, aA, bA, cA, kO, kA, kB, kC, en, sg, ss, oc, ed, os, ce, upd rg i (rg i ^^^ ((1 : Int32) <<< (fb &&& 31))))) : wpX_guard Q (nI R, nI C, nI K, nI F, nI (2 * R), nI L, hd, cl, fk, fs, fp, nI i, fb, st, sd, pl, la, nw, oA, aA, bA, cA, kO, kA, kB, kC, en, sg, ss, oc, ed, os, ce, rg) 16 a b c := by
  have hv : vp_in (nI i) 17 := vp_in_nI (by omega) (by decide)
  refine br_f (by decide) (br_f (by decide) (br_f (by decide) (br_f (by decide) (br_t rfl (br_t hy.1 (br_t hy.2.1 (br_t hy.2.2 ⟨hv, hv, nm_r (e' := upd rg i (rg i ^^^ ((1 : Int32) <<< (fb &&& 31)))) (by rw [nI_clamp (by omega)]) ?_⟩)))))))
  rcases hs with ⟨z, rfl⟩ | ⟨z, rfl⟩
  · exact br_t z (br_f (by decide) h)
  · exact br_f z (br_t rfl h)
theorem fd_g17 {Q : SX → Prop} {x y : Nat} {c : Int32} (hx : x < 17) (hy : y < 17) (h : Q (nI R, nI C, nI K, nI F, nI (2 * R), nI L, hd, cl, fk, fs, fp, fi, fb, st, sd, pl, la, nw, oA, aA, bA, cA, kO, kA, kB, kC, en, sg, ss, oc, ed, os, ce, upd rg x (rg y))) : wpX_guard Q (nI R, nI C, nI K, nI F, nI (2 * R), nI L, hd, cl, fk, fs, fp, fi, fb, st, sd, pl, la, nw, oA, aA, bA, cA, kO, kA, kB, kC, en, sg, ss, oc, ed, os, ce, rg) 17 (nI x) (nI y) c :=
  br_f (by decide) (br_f (by decide) (br_f (by decide) (br_f (by decide) (br_f (by decide) (br_t rfl (⟨vp_in_nI hy (by decide), vp_in_nI hx (by decide), nm_r (e' := upd rg x (rg y)) (by rw [nI_clamp (by omega), nI_clamp (by omega)]) h⟩))))))
theorem fd_g18 {Q : SX → Prop} {a b c : Int32} (hR8 : R ≤ 8) (h : Q (nI R, nI C, nI K, nI F, nI (2 * R), nI L, hd, cl, fk, fs, fp, fi, fb, st, sd, pl, la, nw, oA, aA, bA, cA, kO, kA, kB, kC, en, sg, ss, oc, ed, os, ce, upd rg (2 * R) (rg (2 * R) ^^^ a))) : wpX_guard Q (nI R, nI C, nI K, nI F, nI (2 * R), nI L, hd, cl, fk, fs, fp, fi, fb, st, sd, pl, la, nw, oA, aA, bA, cA, kO, kA, kB, kC, en, sg, ss, oc, ed, os, ce, rg) 18 a b c :=
  br_f (by decide) (br_f (by decide) (br_f (by decide) (br_f (by decide) (br_f (by decide) (br_f (by decide) (br_t rfl (⟨vp_in_nI (by omega) (by decide), vp_in_nI (by omega) (by decide), nm_r (e' := upd rg (2 * R) (rg (2 * R) ^^^ a)) (by rw [nI_clamp (by omega)]) h⟩)))))))
theorem fd_g19 {Q : SX → Prop} {x : Nat} {b c : Int32} (hR8 : R ≤ 8) (hx : x < 17) (h : Q (nI R, nI C, nI K, nI F, nI (2 * R), nI L, hd, cl, fk, fs, fp, fi, fb, st, sd, pl, la, nw, oA, aA, bA, cA, kO, kA, kB, kC, en, sg, ss, oc, ed, os, ce, upd rg (2 * R) (rg (2 * R) ^^^ (if rg x = 0 then b else 0)))) : wpX_guard Q (nI R, nI C, nI K, nI F, nI (2 * R), nI L, hd, cl, fk, fs, fp, fi, fb, st, sd, pl, la, nw, oA, aA, bA, cA, kO, kA, kB, kC, en, sg, ss, oc, ed, os, ce, rg) 19 (nI x) b c := by
  have hv : vp_in (nI (2 * R)) 17 := vp_in_nI (by omega) (by decide)
  refine br_f (by decide) (br_f (by decide) (br_f (by decide) (br_f (by decide) (br_f (by decide) (br_f (by decide) (br_f (by decide) (br_t rfl (⟨hv, vp_in_nI hx (by decide), ?_⟩))))))))
  rw [nI_clamp (n := x) (by omega), nI_clamp (n := 2 * R) (by omega)]
  by_cases h0 : rg x = 0
  · rw [if_pos h0] at h
    exact br_t h0 ⟨hv, nm_e h⟩
  · rw [if_neg h0] at h
    exact br_f h0 ⟨hv, nm_e h⟩
theorem fd_g20 {Q : SX → Prop} {x y : Nat} {c : Int32} (hR8 : R ≤ 8) (hx : x < 17) (hy : y < 17) (h : Q (nI R, nI C, nI K, nI F, nI (2 * R), nI L, hd, cl, fk, fs, fp, fi, fb, st, sd, pl, la, nw, oA, aA, bA, cA, kO, kA, kB, kC, en, sg, ss, oc, ed, os, ce, upd rg (2 * R) (rg (2 * R) ^^^ (if rg y ≤ rg x then 0 else c)))) : wpX_guard Q (nI R, nI C, nI K, nI F, nI (2 * R), nI L, hd, cl, fk, fs, fp, fi, fb, st, sd, pl, la, nw, oA, aA, bA, cA, kO, kA, kB, kC, en, sg, ss, oc, ed, os, ce, rg) 20 (nI x) (nI y) c := by
  have hv : vp_in (nI (2 * R)) 17 := vp_in_nI (by omega) (by decide)
  refine br_f (by decide) (br_t (by decide) ⟨hv, vp_in_nI hx (by decide), vp_in_nI hy (by decide), ?_⟩)
  rw [nI_clamp (n := x) (by omega), nI_clamp (n := y) (by omega), nI_clamp (n := 2 * R) (by omega)]
  by_cases h0 : rg y ≤ rg x
  · rw [if_pos h0] at h
    exact br_t h0 ⟨hv, nm_e h⟩
  · rw [if_neg h0] at h
    exact br_f h0 ⟨hv, nm_e h⟩
/-! the rules of the list machine -/
theorem fd_r14 {post : SX → Prop} {t : List fd_Q} {a : Int32} (hss : ss 1 = 0) (hR8 : R ≤ 8) (he : rg (2 * R) = a) (h : fd_Run post t (nI R) (nI C) (nI K) (nI F) (nI (2 * R)) (nI L) hd cl fk fs fp fi fb st sd pl la nw oA aA bA cA kO kA kB kC en sg ss oc ed os ce rg) : fd_Run post ((14, a, 0, 0) :: t) (nI R) (nI C) (nI K) (nI F) (nI (2 * R)) (nI L) hd cl fk fs fp fi fb st sd pl la nw oA aA bA cA kO kA kB kC en sg ss oc ed os ce rg :=
  fd_rcons hss (fd_hcg (by decide) fun Q hQ => fd_g14 hR8 he hQ) h
theorem fd_r14b {post : SX → Prop} {t : List fd_Q} {a : Int32} (hss : ss 1 = 0) (hR8 : R ≤ 8) (he : ¬ rg (2 * R) = a) (h : post (nI R, nI C, nI K, nI F, nI (2 * R), nI L, hd, cl, fk, fs, fp, fi, fb, st, sd, pl, la, nw, oA, aA, bA, cA, kO, kA, kB, kC, en, sg, upd ss 1 4, oc, ed, os, ce, rg)) : fd_Run post ((14, a, 0, 0) :: t) (nI R) (nI C) (nI K) (nI F) (nI (2 * R)) (nI L) hd cl fk fs fp fi fb st sd pl la nw oA aA bA cA kO kA kB kC en sg ss oc ed os ce rg :=
  fd_rcons hss (fd_hcg (by decide) fun Q hQ => fd_g14b hR8 he hQ) (fd_rstop (by rw [pk_us]; decide) h)
theorem fd_r15 {post : SX → Prop} {t : List fd_Q} {x : Nat} (hss : ss 1 = 0) (hR8 : R ≤ 8) (hx : x < R) (he : rg x = rg (R + x)) (h : fd_Run post t (nI R) (nI C) (nI K) (nI F) (nI (2 * R)) (nI L) hd cl fk fs fp fi fb st sd pl la nw oA aA bA cA kO kA kB kC en sg ss oc ed os ce rg) : fd_Run post ((15, nI x, 0, 0) :: t) (nI R) (nI C) (nI K) (nI F) (nI (2 * R)) (nI L) hd cl fk fs fp fi fb st sd pl la nw oA aA bA cA kO kA kB kC en sg ss oc ed os ce rg :=
  fd_rcons hss (fd_hcg (by decide) fun Q hQ => fd_g15 hR8 hx he hQ) h
theorem fd_r15b {post : SX → Prop} {t : List fd_Q} {x : Nat} (hss : ss 1 = 0) (hR8 : R ≤ 8) (hx : x < R) (he : ¬ rg x = rg (R + x)) (h : post (nI R, nI C, nI K, nI F, nI (2 * R), nI L, hd, cl, fk, fs, fp, fi, fb, st, sd, pl, la, nw, oA, aA, bA, cA, kO, kA, kB, kC, en, sg, upd ss 1 3, oc, ed, os, ce, rg)) : fd_Run post ((15, nI x, 0, 0) :: t) (nI R) (nI C) (nI K) (nI F) (nI (2 * R)) (nI L) hd cl fk fs fp fi fb st sd pl la nw oA aA bA cA kO kA kB kC en sg ss oc ed os ce rg :=
  fd_rcons hss (fd_hcg (by decide) fun Q hQ => fd_g15b hR8 hx he hQ) (fd_rstop (by rw [pk_us]; decide) h)
theorem fd_r16n {post : SX → Prop} {t : List fd_Q} {a b : Int32} (hss : ss 1 = 0) (hn : ¬ (fk = 1 ∧ fs = nw ∧ fp = a)) (h : fd_Run post t (nI R) (nI C) (nI K) (nI F) (nI (2 * R)) (nI L) hd cl fk fs fp fi fb st sd pl la nw oA aA bA cA kO kA kB kC en sg ss oc ed os ce rg) : fd_Run post ((16, a, b, 0) :: t) (nI R) (nI C) (nI K) (nI F) (nI (2 * R)) (nI L) hd cl fk fs fp fi fb st sd pl la nw oA aA bA cA kO kA kB kC en sg ss oc ed os ce rg :=
  fd_rcons hss (fd_hcg (by decide) fun Q hQ => fd_g16n hn hQ) h
theorem fd_r16y {post : SX → Prop} {t : List fd_Q} {i : Nat} {a b st' : Int32} (hss : ss 1 = 0) (hR8 : R ≤ 8) (hi : i ≤ 2 * R) (hy : fk = 1 ∧ fs = nw ∧ fp = a)
    (hs : (((b >>> (nI i &&& 31)) &&& 1) = 1 ∧ st' = 2) ∨ (¬ ((b >>> (nI i &&& 31)) &&& 1) = 1 ∧ st' = 1)) (h : fd_Run post t (nI R) (nI C) (nI K) (nI F) (nI (2 * R)) (nI L) hd cl fk fs fp (nI i) fb st' sd pl la nw oA aA bA cA kO kA kB kC en sg ss oc ed os ce (upd rg i (rg i ^^^ ((1 : Int32) <<< (fb &&& 31))))) : fd_Run post ((16, a, b, 0) :: t) (nI R) (nI C) (nI K) (nI F) (nI (2 * R)) (nI L) hd cl fk fs fp (nI i) fb st sd pl la nw oA aA bA cA kO kA kB kC en sg ss oc ed os ce rg :=
  fd_rcons hss (fd_hcg (by decide) fun Q hQ => fd_g16y hR8 hi hy hs hQ) h
theorem fd_r17 {post : SX → Prop} {t : List fd_Q} {x y : Nat} (hss : ss 1 = 0) (hx : x < 17) (hy : y < 17) (h : fd_Run post t (nI R) (nI C) (nI K) (nI F) (nI (2 * R)) (nI L) hd cl fk fs fp fi fb st sd pl la nw oA aA bA cA kO kA kB kC en sg ss oc ed os ce (upd rg x (rg y))) : fd_Run post ((17, nI x, nI y, 0) :: t) (nI R) (nI C) (nI K) (nI F) (nI (2 * R)) (nI L) hd cl fk fs fp fi fb st sd pl la nw oA aA bA cA kO kA kB kC en sg ss oc ed os ce rg :=
  fd_rcons hss (fd_hcg (by decide) fun Q hQ => fd_g17 hx hy hQ) h
theorem fd_r18 {post : SX → Prop} {t : List fd_Q} {a : Int32} (hss : ss 1 = 0) (hR8 : R ≤ 8) (h : fd_Run post t (nI R) (nI C) (nI K) (nI F) (nI (2 * R)) (nI L) hd cl fk fs fp fi fb st sd pl la nw oA aA bA cA kO kA kB kC en sg ss oc ed os ce (upd rg (2 * R) (rg (2 * R) ^^^ a))) : fd_Run post ((18, a, 0, 0) :: t) (nI R) (nI C) (nI K) (nI F) (nI (2 * R)) (nI L) hd cl fk fs fp fi fb st sd pl la nw oA aA bA cA kO kA kB kC en sg ss oc ed os ce rg :=
  fd_rcons hss (fd_hcg (by decide) fun Q hQ => fd_g18 hR8 hQ) h
theorem fd_r19 {post : SX → Prop} {t : List fd_Q} {x : Nat} {b : Int32} (hss : ss 1 = 0) (hR8 : R ≤ 8) (hx : x < 17) (h : fd_Run post t (nI R) (nI C) (nI K) (nI F) (nI (2 * R)) (nI L) hd cl fk fs fp fi fb st sd pl la nw oA aA bA cA kO kA kB kC en sg ss oc ed os ce (upd rg (2 * R) (rg (2 * R) ^^^ (if rg x = 0 then b else 0)))) : fd_Run post ((19, nI x, b, 0) :: t) (nI R) (nI C) (nI K) (nI F) (nI (2 * R)) (nI L) hd cl fk fs fp fi fb st sd pl la nw oA aA bA cA kO kA kB kC en sg ss oc ed os ce rg :=
  fd_rcons hss (fd_hcg (by decide) fun Q hQ => fd_g19 hR8 hx hQ) h
theorem fd_r20 {post : SX → Prop} {t : List fd_Q} {x y : Nat} {c : Int32} (hss : ss 1 = 0) (hR8 : R ≤ 8) (hx : x < 17) (hy : y < 17) (h : fd_Run post t (nI R) (nI C) (nI K) (nI F) (nI (2 * R)) (nI L) hd cl fk fs fp fi fb st sd pl la nw oA aA bA cA kO kA kB kC en sg ss oc ed os ce (upd rg (2 * R) (rg (2 * R) ^^^ (if rg y ≤ rg x then 0 else c)))) : fd_Run post ((20, nI x, nI y, c) :: t) (nI R) (nI C) (nI K) (nI F) (nI (2 * R)) (nI L) hd cl fk fs fp fi fb st sd pl la nw oA aA bA cA kO kA kB kC en sg ss oc ed os ce rg :=
  fd_rcons hss (fd_hcg (by decide) fun Q hQ => fd_g20 hR8 hx hy hQ) h
theorem fd_r0 {post : SX → Prop} {t : List fd_Q} {a b c : Int32} (hss : ss 1 = 0) (h : post (nI R, nI C, nI K, nI F, nI (2 * R), nI L, hd, cl, fk, fs, fp, fi, fb, st, 1, pl, la, nw, oA, aA, bA, cA, kO, kA, kB, kC, en, sg, upd ss 1 1, oc, ed, os, ce, rg)) : fd_Run post ((0, a, b, c) :: t) (nI R) (nI C) (nI K) (nI F) (nI (2 * R)) (nI L) hd cl fk fs fp fi fb st 1 pl la nw oA aA bA cA kO kA kB kC en sg ss oc ed os ce rg :=
  fd_rcons hss (fd_hcp (by decide) (by decide) fun Q hQ => fd_p0 (w := 1) (by decide) hQ) (fd_rstop (by rw [pk_us]; decide) h)
theorem fd_r1 {post : SX → Prop} {t : List fd_Q} {x : Nat} {b c : Int32} (hss : ss 1 = 0) (hx : x < 17) (h : fd_Run post t (nI R) (nI C) (nI K) (nI F) (nI (2 * R)) (nI L) hd cl fk fs fp fi fb st sd pl la nw oA aA bA cA kO kA kB kC en sg ss oc ed os ce (upd rg x b)) : fd_Run post ((1, nI x, b, c) :: t) (nI R) (nI C) (nI K) (nI F) (nI (2 * R)) (nI L) hd cl fk fs fp fi fb st sd pl la nw oA aA bA cA kO kA kB kC en sg ss oc ed os ce rg :=
  fd_rcons hss (fd_hcp (by decide) (by decide) fun Q hQ => fd_p1 hx hQ) h
theorem fd_rc {post : SX → Prop} {t : List fd_Q} {k x y z : Nat} (hss : ss 1 = 0) (h2 : 2 ≤ k) (h7 : k ≤ 7) (hx : x < 17) (hy : y < 17) (hz : z < 17) (h : fd_Run post t (nI R) (nI C) (nI K) (nI F) (nI (2 * R)) (nI L) hd cl fk fs fp fi fb st sd pl la nw oA aA bA cA kO kA kB kC en sg ss oc ed os ce (upd rg x (fd_cmp k (rg y) (rg z)))) : fd_Run post ((nI k, nI x, nI y, nI z) :: t) (nI R) (nI C) (nI K) (nI F) (nI (2 * R)) (nI L) hd cl fk fs fp fi fb st sd pl la nw oA aA bA cA kO kA kB kC en sg ss oc ed os ce rg :=
  fd_rcons hss (fd_hcp (nI_lt (b := 14) (by omega) (by decide)) (nI_lt (b := 11) (by omega) (by decide)) fun Q hQ => fd_pc h2 h7 hx hy hz hQ) h
theorem fd_r8 {post : SX → Prop} {t : List fd_Q} {x y : Nat} {c : Int32} (hss : ss 1 = 0) (h1 : 1 ≤ C) (h2 : C ≤ 16) (hx : x < 17) (hy : y < 17) (h : fd_Run post t (nI R) (nI C) (nI K) (nI F) (nI (2 * R)) (nI L) hd cl fk fs fp fi fb st 1 pl la nw oA aA bA cA kO kA kB kC en sg ss oc ed os ce (upd rg x (fd_ld C 1 ce (rg y)))) : fd_Run post ((8, nI x, nI y, c) :: t) (nI R) (nI C) (nI K) (nI F) (nI (2 * R)) (nI L) hd cl fk fs fp fi fb st 1 pl la nw oA aA bA cA kO kA kB kC en sg ss oc ed os ce rg :=
  fd_rcons hss (fd_hcp (by decide) (by decide) fun Q hQ => fd_p8 (w := 1) (by decide) h1 h2 hx hy hQ) h
theorem fd_r9 {post : SX → Prop} {t : List fd_Q} {x y : Nat} {c : Int32} (hss : ss 1 = 0) (h1 : 1 ≤ C) (h2 : C ≤ 16) (hx : x < 17) (hy : y < 17) (h : fd_Run post t (nI R) (nI C) (nI K) (nI F) (nI (2 * R)) (nI L) hd cl fk fs fp fi fb st 1 pl la nw oA aA bA cA kO kA kB kC en sg ss oc ed os (fd_st C 1 ce (rg x) (rg y)) rg) : fd_Run post ((9, nI x, nI y, c) :: t) (nI R) (nI C) (nI K) (nI F) (nI (2 * R)) (nI L) hd cl fk fs fp fi fb st 1 pl la nw oA aA bA cA kO kA kB kC en sg ss oc ed os ce rg :=
  fd_rcons hss (fd_hcp (by decide) (by decide) fun Q hQ => fd_p9 (w := 1) (by decide) h1 h2 hx hy hQ) h
theorem fd_r10 {post : SX → Prop} {t : List fd_Q} {x n : Nat} {b c : Int32} (hss : ss 1 = 0) (hx : x < 17) (hn : n < 128) (ho : oc 1 = nI n) (h : fd_Run post t (nI R) (nI C) (nI K) (nI F) (nI (2 * R)) (nI L) hd cl fk fs fp fi fb st 1 pl la nw oA aA bA cA kO kA kB kC en sg ss (upd oc 1 (nI (n + 1))) ed (upd os (128 * 1 + n) (rg x)) ce rg) : fd_Run post ((10, nI x, b, c) :: t) (nI R) (nI C) (nI K) (nI F) (nI (2 * R)) (nI L) hd cl fk fs fp fi fb st 1 pl la nw oA aA bA cA kO kA kB kC en sg ss oc ed os ce rg :=
  fd_rcons hss (fd_hcp (by decide) (by decide) fun Q hQ => fd_p10 (w := 1) (by decide) hx hn ho hQ) h
theorem fd_rb {post : SX → Prop} {t : List fd_Q} {o a b c l st' la' : Int32} (hss : ss 1 = 0) (h14 : o < 14) (h11 : ¬ o < 11) (hG : ∀ Q : SX → Prop, Q (nI R, nI C, nI K, nI F, nI (2 * R), nI L, hd, cl, fk, fs, fp, fi, fb, st, sd, pl, l, nw, oA, aA, bA, cA, kO, kA, kB, kC, en, sg, ss, oc, ed, os, ce, rg) → wpX_perform Q (nI R, nI C, nI K, nI F, nI (2 * R), nI L, hd, cl, fk, fs, fp, fi, fb, st, sd, pl, la, nw, oA, aA, bA, cA, kO, kA, kB, kC, en, sg, ss, oc, ed, os, ce, rg) o a b c)
    (hr : (fk = 2 ∧ fs = nw ∧ la' = fi ∧ st' = 1) ∨ (¬ (fk = 2 ∧ fs = nw) ∧ la' = l ∧ st' = st)) (h : fd_Run post t (nI R) (nI C) (nI K) (nI F) (nI (2 * R)) (nI L) hd cl fk fs fp fi fb st' sd pl la' nw oA aA bA cA kO kA kB kC en sg ss oc ed os ce rg) : fd_Run post ((o, a, b, c) :: t) (nI R) (nI C) (nI K) (nI F) (nI (2 * R)) (nI L) hd cl fk fs fp fi fb st sd pl la nw oA aA bA cA kO kA kB kC en sg ss oc ed os ce rg :=
  fd_rcons hss (fd_hcb h14 h11 hG hr) h
/-! the checks -/
theorem fd_rck0 {post : SX → Prop} {t : List fd_Q} {m : Int32} (hss : ss 1 = 0) (hR8 : R ≤ 8) (h : fd_Run post t (nI R) (nI C) (nI K) (nI F) (nI (2 * R)) (nI L) hd cl fk fs fp fi fb st sd pl la nw oA aA bA cA kO kA kB kC en sg ss oc ed os ce rg) : ∀ (d r : Nat), r + d = R → (∀ i, r ≤ i → i < R → ((m >>> (nI i &&& 31)) &&& 1) = 1 → rg i = rg (R + i)) → fd_Run post (fd_ck m d r ++ t) (nI R) (nI C) (nI K) (nI F) (nI (2 * R)) (nI L) hd cl fk fs fp fi fb st sd pl la nw oA aA bA cA kO kA kB kC en sg ss oc ed os ce rg := by
  intro d
  induction d with
  | zero => intro r _ _; exact h
  | succ d ih =>
    intro r hr hg
    have z := ih (r + 1) (by omega) fun i h1 h2 => hg i (by omega) h2
    by_cases hb : ((m >>> (nI r &&& 31)) &&& 1) = 1
    · have e : fd_ck m (d + 1) r = (15, nI r, 0, 0) :: fd_ck m d (r + 1) := by
        show (if ((m >>> (nI r &&& 31)) &&& 1) = 1 then [((15, nI r, 0, 0) : fd_Q)] else []) ++ fd_ck m d (r + 1) = _
        rw [if_pos hb]
        rfl
      rw [e]
      exact fd_r15 hss hR8 (by omega) (hg r (Nat.le_refl _) (by omega) hb) z
    · have e : fd_ck m (d + 1) r = fd_ck m d (r + 1) := by
        show (if ((m >>> (nI r &&& 31)) &&& 1) = 1 then [((15, nI r, 0, 0) : fd_Q)] else []) ++ fd_ck m d (r + 1) = _
        rw [if_neg hb]
        rfl
      rw [e]
      exact z
theorem fd_rck3 {post : SX → Prop} {t : List fd_Q} {m : Int32} {i : Nat} (hss : ss 1 = 0) (hR8 : R ≤ 8) (hi : i < R) (hb : ((m >>> (nI i &&& 31)) &&& 1) = 1) (hne : ¬ rg i = rg (R + i)) (h : post (nI R, nI C, nI K, nI F, nI (2 * R), nI L, hd, cl, fk, fs, fp, fi, fb, st, sd, pl, la, nw, oA, aA, bA, cA, kO, kA, kB, kC, en, sg, upd ss 1 3, oc, ed, os, ce, rg)) : ∀ (d r : Nat), r + d = R → r ≤ i → fd_Run post (fd_ck m d r ++ t) (nI R) (nI C) (nI K) (nI F) (nI (2 * R)) (nI L) hd cl fk fs fp fi fb st sd pl la nw oA aA bA cA kO kA kB kC en sg ss oc ed os ce rg := by
  intro d
  induction d with
  | zero => intro r hr hri; exact absurd hi (by omega)
  | succ d ih =>
    intro r hr hri
    by_cases hbr : ((m >>> (nI r &&& 31)) &&& 1) = 1
    · have e : fd_ck m (d + 1) r = (15, nI r, 0, 0) :: fd_ck m d (r + 1) := by
        show (if ((m >>> (nI r &&& 31)) &&& 1) = 1 then [((15, nI r, 0, 0) : fd_Q)] else []) ++ fd_ck m d (r + 1) = _
        rw [if_pos hbr]
        rfl
      rw [e]
      by_cases he : rg r = rg (R + r)
      · have hri' : r ≠ i := fun z => hne (by rw [← z]; exact he)
        exact fd_r15 hss hR8 (by omega) he (ih (r + 1) (by omega) (by omega))
      · exact fd_r15b hss hR8 (by omega) he h
    · have e : fd_ck m (d + 1) r = fd_ck m d (r + 1) := by
        show (if ((m >>> (nI r &&& 31)) &&& 1) = 1 then [((15, nI r, 0, 0) : fd_Q)] else []) ++ fd_ck m d (r + 1) = _
        rw [if_neg hbr]
        rfl
      rw [e]
      have hri' : r ≠ i := fun z => hbr (by rw [z]; exact hb)
      exact ih (r + 1) (by omega) (by omega)
/-! a step of X from the list -/
theorem fd_xhs {post : SX → Prop} {p : Nat} (hR8 : R ≤ 8) (hL : L ≤ 24) (hp : p ≤ L) (hH : fd_Hd R L oA aA bA cA kO kA kB kC en sg) (h : fd_Run post (fd_code R p (oA p) (aA p) (bA p) (cA p)) (nI R) (nI C) (nI K) (nI F) (nI (2 * R)) (nI L) hd cl fk fs fp fi fb st sd (nI p) (nI (p + 1)) nw oA aA bA cA kO kA kB kC en sg ss oc ed os ce rg) : wpX_hardStep post (nI R, nI C, nI K, nI F, nI (2 * R), nI L, hd, cl, fk, fs, fp, fi, fb, st, sd, nI p, la, nw, oA, aA, bA, cA, kO, kA, kB, kC, en, sg, ss, oc, ed, os, ce, rg) := by
  obtain ⟨_, hV, _, hI, he⟩ := hH
  have hc : (nI p).toNatClampNeg = p := nI_clamp (by omega)
  have hc1 : (nI (p + 1)).toNatClampNeg = p + 1 := nI_clamp (by omega)
  have hl := fd_alll hR8 hV (p + 1) (by omega)
  have el : (fd_all R oA aA bA cA (p + 1)).length = (fd_all R oA aA bA cA p).length + (fd_code R p (oA p) (aA p) (bA p) (cA p)).length := by
    show (fd_all R oA aA bA cA p ++ fd_code R p (oA p) (aA p) (bA p) (cA p)).length = _
    rw [List.length_append]
  obtain ⟨b, hb⟩ := fd_allI (R := R) (oA := oA) (aA := aA) (bA := bA) (cA := cA) (n := L + 1) (p := p) (by omega)
  rw [hb] at hI
  have hA := fd_AtI hI
  unfold wpX_hardStep
  refine nm_r (nI_1 p) ⟨by rw [nI_1]; exact vp_in_nI (by omega) (by decide), nm_r (e' := nI ((fd_all R oA aA bA cA p).length + (fd_code R p (oA p) (aA p) (bA p) (cA p)).length)) (by rw [nI_1, hc1, he (p + 1) (by omega), el]) ⟨vp_in_nI (by omega) (by decide), nm_r (e' := nI (fd_all R oA aA bA cA p).length) (by rw [hc, he p (by omega)]) ⟨(fd_code R p (oA p) (aA p) (bA p) (cA p)).length + 1, ?_⟩⟩⟩
  exact h _ _ hA (by omega) (by omega)
end
section
variable {R C K F L : Nat} {hd cl fk fs fp fi fb st sd pl la nw fl : Int32} {oA aA bA cA kO kA kB kC en sg ss oc ed os ce rg pg re : Nat → Int32}
/-! xor, masks, signatures -/
theorem fd_xx (s t : Int32) : s ^^^ (s ^^^ t) = t := by
  rw [← Int32.xor_assoc, Int32.xor_self, Int32.xor_comm, Int32.xor_zero]
theorem fd_xinj {x s t : Int32} : x ^^^ (s ^^^ t) = t ↔ x = s := by
  constructor
  · intro h
    have z : x ^^^ (s ^^^ t) ^^^ (s ^^^ t) = t ^^^ (s ^^^ t) := congrArg (· ^^^ (s ^^^ t)) h
    rw [Int32.xor_assoc, Int32.xor_self, Int32.xor_zero, Int32.xor_comm s t, fd_xx] at z
    exact z
  · intro h
    rw [h, fd_xx]
theorem fd_xne {x m : Int32} (h : ¬ m = 0) : ¬ x ^^^ m = x := by
  intro z
  have y : x ^^^ (x ^^^ m) = x ^^^ x := congrArg (x ^^^ ·) z
  rw [fd_xx, Int32.xor_self] at y
  exact h y
theorem fd_bit0 : ∀ b : Fin 32, ¬ (1 : Int32) <<< (nI b.val &&& 31) = 0 := by decide +kernel
theorem fd_sigi : ∀ p q : Fin 25, fd_sig p.val = fd_sig q.val → p.val = q.val := by decide +kernel
theorem fd_mb0 : ∀ i : Fin 17, ¬ (((0 : Int32) >>> (nI i.val &&& 31)) &&& 1) = 1 := by decide +kernel
theorem fd_mb1 : ∀ (y : Fin 8) (i : Fin 17), ((((1 : Int32) <<< (nI y.val &&& 31)) >>> (nI i.val &&& 31)) &&& 1) = 1 ↔ i.val = y.val := by decide +kernel
theorem fd_mb2 : ∀ (x y : Fin 8) (i : Fin 17), (((((1 : Int32) <<< (nI x.val &&& 31)) ||| ((1 : Int32) <<< (nI y.val &&& 31))) >>> (nI i.val &&& 31)) &&& 1) = 1 ↔ (i.val = x.val ∨ i.val = y.val) := by decide +kernel
theorem fd_cq8 {a b q : Int32} : fd_cq 8 a b q ↔ q = b := by
  constructor
  · rintro (⟨_, h⟩ | ⟨h, _⟩ | ⟨h, _⟩)
    · exact h
    · exact absurd h (by decide)
    · exact absurd h (by decide)
  · exact fun h => Or.inl ⟨rfl, h⟩
theorem fd_cq9 {o a b q : Int32} (ho : o = 9 ∨ o = 13) : fd_cq o a b q ↔ (q = a ∨ q = b) := by
  constructor
  · rintro (⟨h, _⟩ | ⟨_, h⟩ | ⟨h, _⟩)
    · rcases ho with rfl | rfl
      · exact absurd h (by decide)
      · exact absurd h (by decide)
    · exact h
    · rcases ho with rfl | rfl
      · exact absurd h (by decide)
      · exact absurd h (by decide)
  · exact fun h => Or.inr (Or.inl ⟨ho, h⟩)
theorem fd_cq10 {o a b q : Int32} (ho : o = 10 ∨ o = 12) : fd_cq o a b q ↔ q = a := by
  constructor
  · rintro (⟨h, _⟩ | ⟨h, _⟩ | ⟨_, h⟩)
    · rcases ho with rfl | rfl
      · exact absurd h (by decide)
      · exact absurd h (by decide)
    · rcases ho with rfl | rfl
      · exact absurd h (by decide)
      · exact absurd h (by decide)
    · exact h
  · exact fun h => Or.inr (Or.inr ⟨ho, h⟩)
theorem fd_cq0 {o a b q : Int32} {k : Nat} (hk : k ≤ 7 ∨ k = 11) (ho : o = nI k) : ¬ fd_cq o a b q := by
  have hne : ∀ m, m ≤ 13 → k ≠ m → ¬ o = nI m := fun m hm hkm hz => hkm ((nI_eq (by omega) (by omega)).mp (ho.symm.trans hz))
  rintro (⟨h, _⟩ | ⟨h, _⟩ | ⟨h, _⟩)
  · exact hne 8 (by omega) (by omega) h
  · exact h.elim (hne 9 (by omega) (by omega)) (hne 13 (by omega) (by omega))
  · exact h.elim (hne 10 (by omega) (by omega)) (hne 12 (by omega) (by omega))
theorem fd_mbit {T i : Nat} {o a b c : Int32} (hR8 : R ≤ 8) (hi : i < 17) (hV : fd_VI R T o a b c) : ((fd_mask o a b >>> (nI i &&& 31)) &&& 1) = 1 ↔ fd_cq o a b (nI i) := by
  have z0 := fd_mb0 ⟨i, hi⟩
  have eI : ∀ m, m < 17 → (nI i = nI m ↔ i = m) := fun m hm => nI_eq (by omega) (by omega)
  rcases hV with ⟨rfl, _⟩ | ⟨rfl, _⟩ | ⟨k, h2, h7, rfl, _⟩ | ⟨rfl, x, y, hx, hy, rfl, rfl, _⟩ | ⟨rfl, x, y, hx, hy, rfl, rfl, _⟩ | ⟨rfl, x, hx, rfl, rfl, _⟩ | ⟨rfl, _⟩ | ⟨rfl, x, y, hx, hy, rfl, rfl, _⟩ | ⟨rfl, x, y, t, hx, hy, ht, rfl, rfl, _⟩
  · exact ⟨fun h => absurd h z0, fun h => absurd h (fd_cq0 (k := 0) (by omega) rfl)⟩
  · exact ⟨fun h => absurd h z0, fun h => absurd h (fd_cq0 (k := 1) (by omega) rfl)⟩
  · rw [fd_mk0 (Or.inl h7) rfl]
    exact ⟨fun h => absurd h z0, fun h => absurd h (fd_cq0 (k := k) (by omega) rfl)⟩
  · rw [fd_cq8, eI y (by omega)]
    exact fd_mb1 ⟨y, by omega⟩ ⟨i, hi⟩
  · rw [fd_cq9 (Or.inl rfl), eI x (by omega), eI y (by omega)]
    exact fd_mb2 ⟨x, by omega⟩ ⟨y, by omega⟩ ⟨i, hi⟩
  · rw [fd_cq10 (Or.inl rfl), eI x (by omega)]
    exact fd_mb1 ⟨x, by omega⟩ ⟨i, hi⟩
  · exact ⟨fun h => absurd h z0, fun h => absurd h (fd_cq0 (k := 11) (by omega) rfl)⟩
  · rw [fd_cq10 (Or.inr rfl), eI x (by omega)]
    exact fd_mb1 ⟨x, by omega⟩ ⟨i, hi⟩
  · rw [fd_cq9 (Or.inr rfl), eI x (by omega), eI y (by omega)]
    exact fd_mb2 ⟨x, by omega⟩ ⟨y, by omega⟩ ⟨i, hi⟩
/-- a compared register is a register -/
theorem fd_cqR {T i : Nat} {o a b c : Int32} (hR8 : R ≤ 8) (hi : i < 17) (hV : fd_VI R T o a b c) (h : fd_cq o a b (nI i)) : i < R := by
  have eI : ∀ m, m < 17 → (nI i = nI m ↔ i = m) := fun m hm => nI_eq (by omega) (by omega)
  rcases hV with ⟨rfl, _⟩ | ⟨rfl, _⟩ | ⟨k, h2, h7, rfl, _⟩ | ⟨rfl, x, y, hx, hy, rfl, rfl, _⟩ | ⟨rfl, x, y, hx, hy, rfl, rfl, _⟩ | ⟨rfl, x, hx, rfl, rfl, _⟩ | ⟨rfl, _⟩ | ⟨rfl, x, y, hx, hy, rfl, rfl, _⟩ | ⟨rfl, x, y, t, hx, hy, ht, rfl, rfl, _⟩
  · exact absurd h (fd_cq0 (k := 0) (by omega) rfl)
  · exact absurd h (fd_cq0 (k := 1) (by omega) rfl)
  · exact absurd h (fd_cq0 (k := k) (by omega) rfl)
  · rw [fd_cq8, eI y (by omega)] at h
    omega
  · rw [fd_cq9 (Or.inl rfl), eI x (by omega), eI y (by omega)] at h
    omega
  · rw [fd_cq10 (Or.inl rfl), eI x (by omega)] at h
    omega
  · exact absurd h (fd_cq0 (k := 11) (by omega) rfl)
  · rw [fd_cq10 (Or.inr rfl), eI x (by omega)] at h
    omega
  · rw [fd_cq9 (Or.inr rfl), eI x (by omega), eI y (by omega)] at h
    omega
/-- the exposed masters of the second window -/
theorem fd_mexp {T i : Nat} {o a b c : Int32} (hR8 : R ≤ 8) (hi : i < 17) (hV : fd_VI R T o a b c) : (((if 10 < o then 0 else fd_mask o a b) >>> (nI i &&& 31)) &&& 1) = 1 ↔ (i < R ∧ ¬ o < 8 ∧ ¬ 10 < o ∧ fd_cq o a b (nI i)) := by
  by_cases h10 : 10 < o
  · rw [if_pos h10]
    exact ⟨fun h => absurd h (fd_mb0 ⟨i, hi⟩), fun h => absurd h10 h.2.2.1⟩
  · rw [if_neg h10, fd_mbit hR8 hi hV]
    constructor
    · intro h
      refine ⟨fd_cqR hR8 hi hV h, fun h8 => ?_, h10, h⟩
      rcases h with ⟨rfl, _⟩ | ⟨rfl | rfl, _⟩ | ⟨rfl | rfl, _⟩
      · exact absurd h8 (by decide)
      · exact absurd h8 (by decide)
      · exact absurd h8 (by decide)
      · exact absurd h8 (by decide)
      · exact absurd h8 (by decide)
    · exact fun h => h.2.2.2
/-! what a step keeps -/
def fd_HA (R : Nat) (rg re : Nat → Int32) : Prop := ∀ i, i < 2 * R → rg i = re i
def fd_HB (R p : Nat) (fl : Int32) (rg : Nat → Int32) : Prop := (fl = 0 ∧ rg (2 * R) = fd_sig p) ∨ (fl = 1 ∧ ¬ rg (2 * R) = fd_sig p)
def fd_CL (R : Nat) (fl : Int32) (re : Nat → Int32) : Prop := fl = 0 ∧ ∀ i, i < R → re i = re (R + i)
theorem fd_HA2 {v : Int32} (h : fd_HA R rg re) : fd_HA R (upd rg (2 * R) v) re := by
  intro i hi
  rw [pk_un (by omega)]
  exact h i hi
theorem fd_HAw {x : Nat} {v v' : Int32} (h : fd_HA R rg re) : fd_HA R (upd (upd rg x v) (x + R) v') (upd (upd re x v) (R + x) v') := by
  intro i hi
  rw [Nat.add_comm R x]
  by_cases e : i = x + R
  · rw [e, pk_us, pk_us]
  · rw [pk_un e, pk_un e]
    by_cases e2 : i = x
    · rw [e2, pk_us, pk_us]
    · rw [pk_un e2, pk_un e2]
      exact h i hi
theorem fd_w2 {x : Nat} {v v' : Int32} (hx : x < R) : upd (upd rg x v) (x + R) v' (2 * R) = rg (2 * R) := by
  rw [pk_un (by omega), pk_un (by omega)]
theorem fd_HBq {p q : Nat} {rg' : Nat → Int32} (h : fd_HB R p fl rg) (e : rg' (2 * R) = rg (2 * R) ^^^ (fd_sig p ^^^ fd_sig q)) : fd_HB R q fl rg' := by
  rcases h with ⟨h1, h2⟩ | ⟨h1, h2⟩
  · exact Or.inl ⟨h1, by rw [e]; exact fd_xinj.mpr h2⟩
  · exact Or.inr ⟨h1, by rw [e]; exact fun z => h2 (fd_xinj.mp z)⟩
theorem fd_HBb {p q w : Nat} {fl' : Int32} {rg' : Nat → Int32} (hw : w < 25) (hq : q < 25) (h : fd_HB R p fl rg) (e : rg' (2 * R) = rg (2 * R) ^^^ (fd_sig p ^^^ fd_sig w)) (hf : fl = 0 ∨ (fl = 1 ∧ q = w)) (hr : (q = w ∧ fl' = fl) ∨ (¬ q = w ∧ fl' = 1)) : fd_HB R q fl' rg' := by
  rcases hr with ⟨rfl, rfl⟩ | ⟨hn, rfl⟩
  · exact fd_HBq h e
  · rcases hf with h0 | ⟨_, hz⟩
    · rcases h with ⟨_, h2⟩ | ⟨h1, _⟩
      · refine Or.inr ⟨rfl, ?_⟩
        rw [e, fd_xinj.mpr h2]
        exact fun z => hn (fd_sigi ⟨w, hw⟩ ⟨q, hq⟩ z).symm
      · exact absurd (h0.symm.trans h1) (by decide)
    · exact absurd hz hn
theorem fd_CLw {x : Nat} {v : Int32} (h : fd_CL R fl re) (hx : x < R) : fd_CL R fl (upd (upd re x v) (R + x) v) := by
  refine ⟨h.1, fun i hi => ?_⟩
  rw [pk_un (show i ≠ R + x from by omega)]
  by_cases e : i = x
  · rw [e, pk_us, pk_us]
  · rw [pk_un e, pk_un (show R + i ≠ R + x from by omega), pk_un (show R + i ≠ x from by omega)]
    exact h.2 i hi
/-! the flip, both sides -/
theorem fd_yflip {Q : SY → Prop} {p i : Nat} {sv : Int32} (hP : fd_Pg R K L oA aA bA cA pg) (hR8 : R ≤ 8) (hL : L ≤ 24) (hp : p ≤ L) (hi : i ≤ 2 * R)
    (hs : ((fp = 1 ∧ i < R ∧ ¬ oA p < 8 ∧ ¬ 10 < oA p ∧ fd_cq (oA p) (aA p) (bA p) (nI i)) ∧ sv = 2) ∨ (¬ (fp = 1 ∧ i < R ∧ ¬ oA p < 8 ∧ ¬ 10 < oA p ∧ fd_cq (oA p) (aA p) (bA p) (nI i)) ∧ sv = 1))
    (h1 : i = 2 * R → Q (nI R, nI C, nI K, nI F, nI L, sv, fk, fs, fp, nI i, fb, hd, 1, pg, ce, os, oc, ss, ed, re)) (h2 : ¬ i = 2 * R → Q (nI R, nI C, nI K, nI F, nI L, sv, fk, fs, fp, nI i, fb, hd, fl, pg, ce, os, oc, ss, ed, upd re i (re i ^^^ ((1 : Int32) <<< (fb &&& 31))))) : wpY_flip Q (nI R, nI C, nI K, nI F, nI L, st, fk, fs, fp, nI i, fb, hd, fl, pg, ce, os, oc, ss, ed, re) (nI p) := by
  have z66 : wY_flip_66 Q sv (nI R) (nI C) (nI K) (nI F) (nI L) st fk fs fp (nI i) fb hd fl pg ce os oc ss ed re := by
    by_cases e : i = 2 * R
    · exact br_t (by rw [fd_2m, e]) (h1 e)
    · have hv : vp_in (nI i) 16 := vp_in_nI (by omega) (by decide)
      refine br_f (by rw [fd_2m, nI_eq (by omega) (by omega)]; exact e) ⟨hv, hv, nm_r (e' := upd re i (re i ^^^ ((1 : Int32) <<< (fb &&& 31)))) (by rw [nI_clamp (by omega)]) (h2 e)⟩
  unfold wpY_flip
  refine fd_yf0 hP hL hp ?_
  rcases hs with ⟨⟨a1, a2, a3, a4, a5⟩, rfl⟩ | ⟨hn, rfl⟩
  · exact br_t a1 (br_f (nI_ge a2 (by omega)) (br_f a3 (br_f a4 (fd_ycm hP hL hp (fun _ => br_f (by decide) (br_f (by decide) z66)) fun c => absurd a5 c))))
  · have z54 : wY_flip_54 Q (nI R) (nI C) (nI K) (nI F) (nI L) st fk fs fp (nI i) fb hd fl pg ce os oc ss ed re := br_t rfl z66
    refine br_c (fun a1 => br_c (fun _ => z54) fun a2 => br_c (fun _ => z54) fun a3 => br_c (fun _ => z54) fun a4 => fd_ycm hP hL hp (fun c => absurd ⟨a1, ?_, a3, a4, c⟩ hn) fun _ => br_t rfl z54) fun _ => z54
    rw [nI_leI (by omega) (by omega)] at a2
    omega
theorem fd_flip {P : Prop} {s p : Nat} {ph m : Int32} (hR8 : R ≤ 8) (hP : fd_Pg R K L oA aA bA cA pg) (hL : L ≤ 24) (hp : p ≤ L) (hFt : fd_Ft R L fk fi fb) (hss : ss 1 = 0) (hA : fd_HA R rg re) (hB : fd_HB R p fl rg)
    (hcl : fk = 1 ∧ fs = nI s ∧ fp = ph → fd_CL R fl re)
    (hm : ∀ i, i ≤ 2 * R → fp = ph → (((m >>> (nI i &&& 31)) &&& 1) = 1 ↔ (fp = 1 ∧ i < R ∧ ¬ oA p < 8 ∧ ¬ 10 < oA p ∧ fd_cq (oA p) (aA p) (bA p) (nI i))))
    (H : ∀ (st' fl' : Int32) (rg' re' : Nat → Int32), fd_HA R rg' re' → fd_HB R p fl' rg' →
      (((fk = 1 ∧ fs = nI s ∧ fp = ph) ∧ (fl' = 0 ∨ (fl' = 1 ∧ ∀ i, i < R → re' i = re' (R + i)))) ∨ (¬ (fk = 1 ∧ fs = nI s ∧ fp = ph) ∧ st' = st ∧ fl' = fl ∧ rg' = rg ∧ re' = re)) →
      (∀ (post : SX → Prop) (t : List fd_Q), fd_Run post t (nI R) (nI C) (nI K) (nI F) (nI (2 * R)) (nI L) hd cl fk fs fp fi fb st' sd pl la (nI s) oA aA bA cA kO kA kB kC en sg ss oc ed os ce rg' → fd_Run post ((16, ph, m, 0) :: t) (nI R) (nI C) (nI K) (nI F) (nI (2 * R)) (nI L) hd cl fk fs fp fi fb st sd pl la (nI s) oA aA bA cA kO kA kB kC en sg ss oc ed os ce rg) →
      (∀ (Q : SY → Prop) (ss : Nat → Int32), fk = 1 ∧ fs = nI s ∧ fp = ph → Q (nI R, nI C, nI K, nI F, nI L, st', fk, fs, fp, fi, fb, hd, fl', pg, ce, os, oc, ss, ed, re') → wpY_flip Q (nI R, nI C, nI K, nI F, nI L, st, fk, fs, fp, fi, fb, hd, fl, pg, ce, os, oc, ss, ed, re) (nI p)) → P) : P := by
  by_cases hy : fk = 1 ∧ fs = nI s ∧ fp = ph
  · obtain ⟨i, b, hi, hb, rfl, rfl⟩ := hFt.1 hy.1
    have hC := hcl hy
    have hm2 := hm i hi hy.2.2
    have hbne := fd_bit0 ⟨b, hb⟩
    have h2 : rg (2 * R) = fd_sig p := by
      rcases hB with ⟨_, z⟩ | ⟨z, _⟩
      · exact z
      · exact absurd (hC.1.symm.trans z) (by decide)
    have hsv : ∃ sv : Int32, ((((m >>> (nI i &&& 31)) &&& 1) = 1 ∧ sv = 2) ∨ (¬ ((m >>> (nI i &&& 31)) &&& 1) = 1 ∧ sv = 1)) := by
      by_cases hbt : ((m >>> (nI i &&& 31)) &&& 1) = 1
      · exact ⟨2, Or.inl ⟨hbt, rfl⟩⟩
      · exact ⟨1, Or.inr ⟨hbt, rfl⟩⟩
    obtain ⟨sv, hsv⟩ := hsv
    have hsY := hsv
    rw [hm2] at hsY
    by_cases e : i = 2 * R
    · refine H sv 1 (upd rg i (rg i ^^^ ((1 : Int32) <<< (nI b &&& 31)))) re (by rw [e]; exact fd_HA2 hA) (Or.inr ⟨rfl, ?_⟩) (Or.inl ⟨hy, Or.inr ⟨rfl, hC.2⟩⟩) (fun post t h => fd_r16y hss hR8 hi hy hsv h) (fun Q ss _ hQ => fd_yflip hP hR8 hL hp hi hsY (fun _ => hQ) (fun z => absurd e z))
      rw [e, pk_us, ← h2]
      exact fd_xne hbne
    · refine H sv fl (upd rg i (rg i ^^^ ((1 : Int32) <<< (nI b &&& 31)))) (upd re i (re i ^^^ ((1 : Int32) <<< (nI b &&& 31)))) ?_ ?_ (Or.inl ⟨hy, Or.inl hC.1⟩) (fun post t h => fd_r16y hss hR8 hi hy hsv h) (fun Q ss _ hQ => fd_yflip hP hR8 hL hp hi hsY (fun z => absurd z e) (fun _ => hQ))
      · intro j hj
        by_cases ej : j = i
        · rw [ej, pk_us, pk_us, hA i (by omega)]
        · rw [pk_un ej, pk_un ej]
          exact hA j hj
      · refine Or.inl ⟨hC.1, ?_⟩
        rw [pk_un (fun z => e z.symm)]
        exact h2
  · exact H st fl rg re hA hB (Or.inr ⟨hy, rfl, rfl, rfl, rfl⟩) (fun post t h => fd_r16n hss hy h) (fun Q ss z => absurd z hy)
/-! the check, both sides -/
theorem fd_check {P : Prop} {p : Nat} (hR8 : R ≤ 8) (hP : fd_Pg R K L oA aA bA cA pg) (hV : fd_VI R L (oA p) (aA p) (bA p) (cA p)) (hL : L ≤ 24) (hp : p ≤ L) (hss : ss 1 = 0) (hA : fd_HA R rg re) (hB : fd_HB R p fl rg) (hc : oA p = 0 ∨ ¬ oA p < 8)
    (He : ∀ e : Int32, ¬ e = 0 → (∀ (post : SX → Prop) (t : List fd_Q), post (nI R, nI C, nI K, nI F, nI (2 * R), nI L, hd, cl, fk, fs, fp, fi, fb, st, sd, pl, la, nw, oA, aA, bA, cA, kO, kA, kB, kC, en, sg, upd ss 1 e, oc, ed, os, ce, rg) → fd_Run post (fd_chk R p (oA p) (aA p) (bA p) ++ t) (nI R) (nI C) (nI K) (nI F) (nI (2 * R)) (nI L) hd cl fk fs fp fi fb st sd pl la nw oA aA bA cA kO kA kB kC en sg ss oc ed os ce rg) → (∀ (Q : Int32 → Prop) (ss : Nat → Int32), Q e → wpY_check Q (nI R, nI C, nI K, nI F, nI L, st, fk, fs, fp, fi, fb, hd, fl, pg, ce, os, oc, ss, ed, re) (nI p)) → P)
    (H0 : fl = 0 → (∀ (post : SX → Prop) (t : List fd_Q), fd_Run post t (nI R) (nI C) (nI K) (nI F) (nI (2 * R)) (nI L) hd cl fk fs fp fi fb st sd pl la nw oA aA bA cA kO kA kB kC en sg ss oc ed os ce rg → fd_Run post (fd_chk R p (oA p) (aA p) (bA p) ++ t) (nI R) (nI C) (nI K) (nI F) (nI (2 * R)) (nI L) hd cl fk fs fp fi fb st sd pl la nw oA aA bA cA kO kA kB kC en sg ss oc ed os ce rg) → (∀ (Q : Int32 → Prop) (ss : Nat → Int32), Q 0 → wpY_check Q (nI R, nI C, nI K, nI F, nI L, st, fk, fs, fp, fi, fb, hd, fl, pg, ce, os, oc, ss, ed, re) (nI p)) → P) : P := by
  have ec : fd_chk R p (oA p) (aA p) (bA p) = (14, fd_sig p, 0, 0) :: fd_ck (fd_mask (oA p) (aA p) (bA p)) R 0 := by
    unfold fd_chk
    rw [if_pos hc]
  rw [ec] at He H0
  rcases hB with ⟨rfl, h2⟩ | ⟨rfl, h2⟩
  · rcases fd_first (fun i => fd_cq (oA p) (aA p) (bA p) (nI i) → re i = re (R + i)) R with hg | ⟨i, hi, hb, _⟩
    · refine H0 rfl (fun post t h => ?_) (fun Q ss hQ => fd_ychk0 hP hR8 hL hp hg hQ)
      refine fd_r14 hss hR8 h2 (fd_rck0 hss hR8 h R 0 (by omega) fun i _ hi hbt => ?_)
      rw [hA i (by omega), hA (R + i) (by omega)]
      exact hg i hi ((fd_mbit hR8 (by omega) hV).mp hbt)
    · have hcq : fd_cq (oA p) (aA p) (bA p) (nI i) := by
        by_cases z : fd_cq (oA p) (aA p) (bA p) (nI i)
        · exact z
        · exact absurd (fun y => absurd y z) hb
      have hne : ¬ re i = re (R + i) := fun z => hb fun _ => z
      refine He 3 (by decide) (fun post t h => ?_) (fun Q ss hQ => fd_ychk3 hP hR8 hL hp hi hcq hne hQ)
      refine fd_r14 hss hR8 h2 (fd_rck3 hss hR8 hi ((fd_mbit hR8 (by omega) hV).mpr hcq) ?_ h R 0 (by omega) (Nat.zero_le _))
      rw [hA i (by omega), hA (R + i) (by omega)]
      exact hne
  · exact He 4 (by decide) (fun post t h => fd_r14b hss hR8 h2 h) (fun Q ss hQ => fd_ychk4 hQ)
end
section
variable {R C K F L : Nat} {hd cl fk fs fp fi fb st sd pl la nw fl : Int32} {oA aA bA cA kO kA kB kC en sg ss oc ed os ce rg pg re : Nat → Int32}
/-! performing, both sides: the branches' end -/
theorem fd_brfin {P : Prop} {s p wn l0 : Nat} {rgB : Nat → Int32} {o a b c : Int32} (hL : L ≤ 24) (hFt : fd_Ft R L fk fi fb) (hss : ss 1 = 0) (hB : fd_HB R p fl rg) (hwn : wn ≤ L) (hl0 : l0 ≤ L)
    (hfl : fl = 0 ∨ (fl = 1 ∧ wn = l0 ∧ fk = 1)) (hcw : fd_CL R fl re → wn = l0) (hAB : fd_HA R rgB re) (hB2 : rgB (2 * R) = rg (2 * R) ^^^ (fd_sig p ^^^ fd_sig wn)) (h14 : o < 14) (h11 : ¬ o < 11) (ho0 : ¬ oA p = 0) (ho11 : 11 ≤ oA p)
    (hX : ∀ post : SX → Prop, fd_Run post [(o, a, b, c)] (nI R) (nI C) (nI K) (nI F) (nI (2 * R)) (nI L) hd cl fk fs fp fi fb st 1 (nI p) (nI (p + 1)) (nI s) oA aA bA cA kO kA kB kC en sg ss oc ed os ce rgB → fd_Run post (fd_tail R p (oA p) (aA p) (bA p) (cA p)) (nI R) (nI C) (nI K) (nI F) (nI (2 * R)) (nI L) hd cl fk fs fp fi fb st 1 (nI p) (nI (p + 1)) (nI s) oA aA bA cA kO kA kB kC en sg ss oc ed os ce rg)
    (hG : ∀ Q : SX → Prop, Q (nI R, nI C, nI K, nI F, nI (2 * R), nI L, hd, cl, fk, fs, fp, fi, fb, st, 1, nI p, nI l0, nI s, oA, aA, bA, cA, kO, kA, kB, kC, en, sg, ss, oc, ed, os, ce, rgB) → wpX_perform Q (nI R, nI C, nI K, nI F, nI (2 * R), nI L, hd, cl, fk, fs, fp, fi, fb, st, 1, nI p, nI (p + 1), nI s, oA, aA, bA, cA, kO, kA, kB, kC, en, sg, ss, oc, ed, os, ce, rgB) o a b c)
    (hW : ∀ (Q : Int32 → Prop) (ss : Nat → Int32), Q (nI wn) → wpY_chosen Q (nI R, nI C, nI K, nI F, nI L, st, fk, fs, fp, fi, fb, hd, fl, pg, ce, os, oc, ss, ed, re) (nI p) (nI R)) (hLd : ∀ (Q : Int32 → Prop) (ss : Nat → Int32), Q (nI l0) → wpY_chosen Q (nI R, nI C, nI K, nI F, nI L, st, fk, fs, fp, fi, fb, hd, fl, pg, ce, os, oc, ss, ed, re) (nI p) (nI 0))
    (hcn : ∃ n, n ≤ s + 1 ∧ oc 1 = nI n) (hOc : fd_Oc oc)
    (H1 : ∀ (p' : Nat) (st' fl' : Int32) (os' oc' ce' rg' re' : Nat → Int32), p' ≤ L → fd_HA R rg' re' → fd_HB R p' fl' rg' → (fk = 1 → fd_CL R fl re → fd_CL R fl' re') → (∃ n, n ≤ s + 1 ∧ oc' 1 = nI n) → fd_Oc oc' →
      (∀ post : SX → Prop, post (nI R, nI C, nI K, nI F, nI (2 * R), nI L, hd, cl, fk, fs, fp, fi, fb, st', 1, nI p', nI p', nI s, oA, aA, bA, cA, kO, kA, kB, kC, en, sg, ss, oc', ed, os', ce', rg') → fd_Run post (fd_tail R p (oA p) (aA p) (bA p) (cA p)) (nI R) (nI C) (nI K) (nI F) (nI (2 * R)) (nI L) hd cl fk fs fp fi fb st 1 (nI p) (nI (p + 1)) (nI s) oA aA bA cA kO kA kB kC en sg ss oc ed os ce rg) →
      (∀ (post : Int32 → SY → Prop) (n : Nat) (ss : Nat → Int32), wY_run_99 post 1 fk n (nI p') 0 (nI (s + 1)) (nI R) (nI C) (nI K) (nI F) (nI L) st' fk fs fp fi fb hd fl' pg ce' os' oc' ss ed re' → wY_run_199 post (wY_run_99 post 1 fk n) 1 fk (nI p) 0 (nI s) (oA p) (nI R) (nI C) (nI K) (nI F) (nI L) st fk fs fp fi fb hd fl pg ce os oc ss ed re) → P) : P := by
  have fin : ∀ (q : Nat) (st' : Int32), q ≤ L → ((fk = 2 ∧ fs = nI s ∧ nI q = fi ∧ st' = 1) ∨ (¬ (fk = 2 ∧ fs = nI s) ∧ nI q = nI l0 ∧ st' = st)) → P := by
    intro q st' hq hr
    have hql : ¬ fk = 2 → q = l0 := by
      intro hk
      rcases hr with ⟨z, _⟩ | ⟨_, z, _⟩
      · exact absurd z hk
      · exact (nI_eq (by omega) (by omega)).mp z
    have hk12 : fk = 1 → ¬ fk = 2 := fun z1 z2 => absurd (z1.symm.trans z2) (by decide)
    have hf0 : fl = 0 ∨ (fl = 1 ∧ q = wn) := by
      rcases hfl with z | ⟨z1, z2, z3⟩
      · exact Or.inl z
      · exact Or.inr ⟨z1, by rw [hql (hk12 z3), z2]⟩
    have eqI : nI q = nI wn ↔ q = wn := nI_eq (by omega) (by omega)
    by_cases e : q = wn
    · refine H1 q st' fl os oc ce rgB re hq hAB (fd_HBb (by omega) (by omega) hB hB2 hf0 (Or.inl ⟨e, rfl⟩)) (fun _ z => z) hcn hOc (fun post h => ?_) (fun post n ss h => ?_)
      · exact hX post (fd_rb hss h14 h11 hG hr (fd_rnil hss h))
      · exact fd_y199b (w := 1) ho0 ho11 (fun Q hQ => hW Q ss hQ) (fun Q hQ => hLd Q ss hQ) hr (Or.inl ⟨eqI.mpr e, rfl⟩) h
    · refine H1 q st' 1 os oc ce rgB re hq hAB (fd_HBb (by omega) (by omega) hB hB2 hf0 (Or.inr ⟨e, rfl⟩)) (fun z1 z2 => absurd ((hql (hk12 z1)).trans (hcw z2).symm) e) hcn hOc (fun post h => ?_) (fun post n ss h => ?_)
      · exact hX post (fd_rb hss h14 h11 hG hr (fd_rnil hss h))
      · exact fd_y199b (w := 1) ho0 ho11 (fun Q hQ => hW Q ss hQ) (fun Q hQ => hLd Q ss hQ) hr (Or.inr ⟨fun z => e (eqI.mp z), rfl⟩) h
  by_cases hr : fk = 2 ∧ fs = nI s
  · obtain ⟨t, ht, et⟩ := hFt.2 hr.1
    exact fin t 1 ht (Or.inl ⟨hr.1, hr.2, et.symm, rfl⟩)
  · exact fin l0 st hl0 (Or.inr ⟨hr, rfl, rfl⟩)
theorem fd_exec {P : Prop} {s p : Nat} (hz : fd_Sz R C K F L) (hP : fd_Pg R K L oA aA bA cA pg) (hV : fd_VI R L (oA p) (aA p) (bA p) (cA p)) (hFt : fd_Ft R L fk fi fb) (hss : ss 1 = 0) (hp : p ≤ L) (hs : s < F) (hA : fd_HA R rg re) (hB : fd_HB R p fl rg)
    (hbr : ¬ oA p < 8 → fl = 0 ∨ (fl = 1 ∧ (∀ i, i < R → re i = re (R + i)) ∧ fk = 1)) (hcn : ∃ n, n ≤ s ∧ oc 1 = nI n) (hOc : fd_Oc oc)
    (H0 : oA p = 0 → P)
    (H1 : ∀ (p' : Nat) (st' fl' : Int32) (os' oc' ce' rg' re' : Nat → Int32), p' ≤ L → fd_HA R rg' re' → fd_HB R p' fl' rg' → (fk = 1 → fd_CL R fl re → fd_CL R fl' re') → (∃ n, n ≤ s + 1 ∧ oc' 1 = nI n) → fd_Oc oc' →
      (∀ post : SX → Prop, post (nI R, nI C, nI K, nI F, nI (2 * R), nI L, hd, cl, fk, fs, fp, fi, fb, st', 1, nI p', nI p', nI s, oA, aA, bA, cA, kO, kA, kB, kC, en, sg, ss, oc', ed, os', ce', rg') → fd_Run post (fd_tail R p (oA p) (aA p) (bA p) (cA p)) (nI R) (nI C) (nI K) (nI F) (nI (2 * R)) (nI L) hd cl fk fs fp fi fb st 1 (nI p) (nI (p + 1)) (nI s) oA aA bA cA kO kA kB kC en sg ss oc ed os ce rg) →
      (∀ (post : Int32 → SY → Prop) (n : Nat) (ss : Nat → Int32), wY_run_99 post 1 fk n (nI p') 0 (nI (s + 1)) (nI R) (nI C) (nI K) (nI F) (nI L) st' fk fs fp fi fb hd fl' pg ce' os' oc' ss ed re' → wY_run_199 post (wY_run_99 post 1 fk n) 1 fk (nI p) 0 (nI s) (oA p) (nI R) (nI C) (nI K) (nI F) (nI L) st fk fs fp fi fb hd fl pg ce os oc ss ed re) → P) : P := by
  unfold fd_Sz at hz
  obtain ⟨cn, hcn, ecn⟩ := hcn
  have hL24 : L ≤ 24 := by omega
  have hR8 : R ≤ 8 := by omega
  have hpl : ¬ oA p = 0 → p + 1 ≤ L := by
    intro hne
    have : p ≠ L := fun e => hne (hP.2.1 p (by omega) (by omega)).1
    omega
  have hcn' : ∃ n, n ≤ s + 1 ∧ oc 1 = nI n := ⟨cn, by omega, ecn⟩
  rcases hV with ⟨eo, ea, eb, ec⟩ | ⟨eo, x, hx, ea, ec⟩ | ⟨k, h2, h7, eo, x, y, z, hx, hy, hz', ea, eb, ec⟩ | ⟨eo, x, y, hx, hy, ea, eb, ec⟩ | ⟨eo, x, y, hx, hy, ea, eb, ec⟩ | ⟨eo, x, hx, ea, eb, ec⟩ | ⟨eo, t, ht, ea, eb, ec⟩ | ⟨eo, x, t, hx, ht, ea, eb, ec⟩ | ⟨eo, x, y, t, hx, hy, ht, ea, eb, ec⟩
  · exact H0 eo
  -- 1: a constant
  · have hp1 := hpl (by rw [eo]; decide)
    have et : fd_tail R p (oA p) (aA p) (bA p) (cA p) = [(1, nI x, bA p, cA p), (1, nI x + nI R, bA p, 0), (18, fd_sig p ^^^ fd_sig (p + 1), 0, 0)] := by rw [eo, ea]; rfl
    rw [et, nI_add] at H1
    refine H1 (p + 1) st fl os oc ce (upd (upd (upd rg x (bA p)) (x + R) (bA p)) (2 * R) (upd (upd rg x (bA p)) (x + R) (bA p) (2 * R) ^^^ (fd_sig p ^^^ fd_sig (p + 1)))) (upd (upd re x (bA p)) (R + x) (bA p)) hp1 (fd_HA2 (fd_HAw hA)) (fd_HBq hB (by rw [pk_us, fd_w2 hx])) (fun _ z => fd_CLw z hx) hcn' hOc (fun post h => ?_) (fun post n ss h => ?_)
    · exact fd_r1 hss (by omega) (fd_r1 hss (by omega) (fd_r18 hss hR8 (fd_rnil hss h)))
    · exact fd_y199s (w := 1) (by rw [eo]; decide) (by rw [eo]; decide) (fun Q hQ => fd_yp1 hP hR8 hL24 hp eo ea rfl hx hQ) h
  -- 2 .. 7: computed
  · have hne : ∀ m, m ≤ 13 → k ≠ m → ¬ oA p = nI m := fun m hm hkm hz => hkm ((nI_eq (by omega) (by omega)).mp (eo.symm.trans hz))
    have hp1 := hpl (hne 0 (by omega) (by omega))
    have et : fd_tail R p (oA p) (aA p) (bA p) (cA p) = [(nI k, nI x, nI y, nI z), (nI k, nI x + nI R, nI y + nI R, nI z + nI R), (18, fd_sig p ^^^ fd_sig (p + 1), 0, 0)] := by
      rw [eo, ea, eb, ec]
      obtain rfl | rfl | rfl | rfl | rfl | rfl : k = 2 ∨ k = 3 ∨ k = 4 ∨ k = 5 ∨ k = 6 ∨ k = 7 := by omega
      all_goals rfl
    rw [et, nI_add x R, nI_add y R, nI_add z R] at H1
    have e1 : fd_cmp k (rg y) (rg z) = fd_cmp k (re y) (re z) := by rw [hA y (by omega), hA z (by omega)]
    have e2 : ∀ v : Int32, fd_cmp k (upd rg x v (y + R)) (upd rg x v (z + R)) = fd_cmp k (re (R + y)) (re (R + z)) := by
      intro v
      rw [pk_un (by omega), pk_un (by omega), hA (y + R) (by omega), hA (z + R) (by omega), Nat.add_comm y R, Nat.add_comm z R]
    have hCL : fk = 1 → fd_CL R fl re → fd_CL R fl (upd (upd re x (fd_cmp k (re y) (re z))) (R + x) (fd_cmp k (re (R + y)) (re (R + z)))) := by
      intro _ hC
      rw [← hC.2 y hy, ← hC.2 z hz']
      exact fd_CLw hC hx
    refine H1 (p + 1) st fl os oc ce (upd (upd (upd rg x (fd_cmp k (re y) (re z))) (x + R) (fd_cmp k (re (R + y)) (re (R + z)))) (2 * R) (upd (upd rg x (fd_cmp k (re y) (re z))) (x + R) (fd_cmp k (re (R + y)) (re (R + z))) (2 * R) ^^^ (fd_sig p ^^^ fd_sig (p + 1)))) (upd (upd re x (fd_cmp k (re y) (re z))) (R + x) (fd_cmp k (re (R + y)) (re (R + z)))) hp1 (fd_HA2 (fd_HAw hA)) (fd_HBq hB (by rw [pk_us, fd_w2 hx])) hCL hcn' hOc (fun post h => ?_) (fun post n ss h => ?_)
    · refine fd_rc hss h2 h7 (by omega) (by omega) (by omega) (fd_rc hss h2 h7 (by omega) (by omega) (by omega) ?_)
      rw [e2, e1]
      exact fd_r18 hss hR8 (fd_rnil hss h)
    · exact fd_y199s (w := 1) (hne 0 (by omega) (by omega)) (by rw [eo]; exact nI_ge (b := 11) (by omega) (by decide)) (fun Q hQ => fd_ypc hP hR8 hL24 hp h2 h7 eo ea eb ec hx hy hz' hQ) h
  -- 8: load
  · have hp1 := hpl (by rw [eo]; decide)
    have et : fd_tail R p (oA p) (aA p) (bA p) (cA p) = [(8, nI x, nI y, cA p), (17, nI x + nI R, nI x, 0), (18, fd_sig p ^^^ fd_sig (p + 1), 0, 0)] := by rw [eo, ea, eb]; rfl
    rw [et, nI_add] at H1
    have e1 : fd_ld C 1 ce (rg y) = fd_ld C 1 ce (re y) := by rw [hA y (by omega)]
    refine H1 (p + 1) st fl os oc ce (upd (upd (upd rg x (fd_ld C 1 ce (re y))) (x + R) (fd_ld C 1 ce (re y))) (2 * R) (upd (upd rg x (fd_ld C 1 ce (re y))) (x + R) (fd_ld C 1 ce (re y)) (2 * R) ^^^ (fd_sig p ^^^ fd_sig (p + 1)))) (upd (upd re x (fd_ld C 1 ce (re y))) (R + x) (fd_ld C 1 ce (re y))) hp1 (fd_HA2 (fd_HAw hA)) (fd_HBq hB (by rw [pk_us, fd_w2 hx])) (fun _ z => fd_CLw z hx) hcn' hOc (fun post h => ?_) (fun post n ss h => ?_)
    · refine fd_r8 hss (by omega) (by omega) (by omega) (by omega) ?_
      rw [e1]
      refine fd_r17 hss (by omega) (by omega) ?_
      rw [pk_us]
      exact fd_r18 hss hR8 (fd_rnil hss h)
    · exact fd_y199s (w := 1) (by rw [eo]; decide) (by rw [eo]; decide) (fun Q hQ => fd_yp8 hP hR8 (by omega) hL24 hp (by decide) eo ea eb hx hy hQ) h
  -- 9: store
  · have hp1 := hpl (by rw [eo]; decide)
    have et : fd_tail R p (oA p) (aA p) (bA p) (cA p) = [(9, nI x, nI y, cA p), (18, fd_sig p ^^^ fd_sig (p + 1), 0, 0)] := by rw [eo, ea, eb]; rfl
    rw [et] at H1
    have e1 : fd_st C 1 ce (rg x) (rg y) = fd_st C 1 ce (re x) (re y) := by rw [hA x (by omega), hA y (by omega)]
    refine H1 (p + 1) st fl os oc (fd_st C 1 ce (re x) (re y)) (upd rg (2 * R) (rg (2 * R) ^^^ (fd_sig p ^^^ fd_sig (p + 1)))) re hp1 (fd_HA2 hA) (fd_HBq hB pk_us) (fun _ z => z) hcn' hOc (fun post h => ?_) (fun post n ss h => ?_)
    · refine fd_r9 hss (by omega) (by omega) (by omega) (by omega) ?_
      rw [e1]
      exact fd_r18 hss hR8 (fd_rnil hss h)
    · exact fd_y199s (w := 1) (by rw [eo]; decide) (by rw [eo]; decide) (fun Q hQ => fd_yp9 hP hR8 (by omega) hL24 hp (by decide) eo ea eb hx hy hQ) h
  -- 10: out
  · have hp1 := hpl (by rw [eo]; decide)
    have et : fd_tail R p (oA p) (aA p) (bA p) (cA p) = [(10, nI x, bA p, cA p), (18, fd_sig p ^^^ fd_sig (p + 1), 0, 0)] := by rw [eo, ea]; rfl
    rw [et] at H1
    refine H1 (p + 1) st fl (upd os (128 * 1 + cn) (re x)) (upd oc 1 (nI (cn + 1))) ce (upd rg (2 * R) (rg (2 * R) ^^^ (fd_sig p ^^^ fd_sig (p + 1)))) re hp1 (fd_HA2 hA) (fd_HBq hB pk_us) (fun _ z => z) ⟨cn + 1, by omega, pk_us⟩ (fd_Ocu hOc (by omega)) (fun post h => ?_) (fun post n ss h => ?_)
    · refine fd_r10 hss (by omega) (by omega) ecn ?_
      rw [hA x (by omega)]
      exact fd_r18 hss hR8 (fd_rnil hss h)
    · exact fd_y199s (w := 1) (by rw [eo]; decide) (by rw [eo]; decide) (fun Q hQ => fd_yp10 hP hR8 hL24 hp (by decide) eo ea hx (by omega) ecn hQ) h
  -- 11: jump
  · have hp1 := hpl (by rw [eo]; decide)
    have et : fd_tail R p (oA p) (aA p) (bA p) (cA p) = [(18, fd_sig p ^^^ fd_sig (nI t).toNatClampNeg, 0, 0), (11, nI t, bA p, cA p)] := by rw [eo, ea]; rfl
    rw [nI_clamp (by omega)] at et
    have hfl : fl = 0 ∨ (fl = 1 ∧ t = t ∧ fk = 1) := by
      rcases hbr (by rw [eo]; decide) with z | ⟨z1, _, z3⟩
      · exact Or.inl z
      · exact Or.inr ⟨z1, rfl, z3⟩
    refine fd_brfin (o := 11) (a := nI t) (b := bA p) (c := cA p) (wn := t) (l0 := t) (rgB := upd rg (2 * R) (rg (2 * R) ^^^ (fd_sig p ^^^ fd_sig t))) hL24 hFt hss hB ht ht hfl (fun _ => rfl) (fd_HA2 hA) pk_us (by decide) (by decide) (by rw [eo]; decide) (by rw [eo]; decide) (fun post h => ?_) (fun Q hQ => fd_p11 hQ) (fun Q ss hQ => fd_yb11 hP hL24 hp eo ea hQ) (fun Q ss hQ => fd_yb11 hP hL24 hp eo ea hQ) hcn' hOc H1
    rw [et]
    exact fd_r18 hss hR8 h
  -- 12: branch if zero
  · have hp1 := hpl (by rw [eo]; decide)
    have et : fd_tail R p (oA p) (aA p) (bA p) (cA p) = [(18, fd_sig p ^^^ fd_sig (p + 1), 0, 0), (19, nI x + nI R, fd_sig (p + 1) ^^^ fd_sig (nI t).toNatClampNeg, 0), (12, nI x, nI t, cA p)] := by rw [eo, ea, eb]; rfl
    rw [nI_clamp (by omega), nI_add] at et
    have hv : ∀ r : Int32, ∃ q, q ≤ L ∧ (if r = 0 then nI t else nI (p + 1)) = nI q ∧ (fd_sig p ^^^ fd_sig (p + 1)) ^^^ (if r = 0 then fd_sig (p + 1) ^^^ fd_sig t else 0) = fd_sig p ^^^ fd_sig q := by
      intro r
      by_cases h0 : r = 0
      · exact ⟨t, ht, if_pos h0, by rw [if_pos h0, Int32.xor_assoc, fd_xx]⟩
      · exact ⟨p + 1, hp1, if_neg h0, by rw [if_neg h0, Int32.xor_zero]⟩
    obtain ⟨wn, hwn, ewn, exn⟩ := hv (re (R + x))
    obtain ⟨l0, hl0, el0, _⟩ := hv (re x)
    have hwl : re x = re (R + x) → wn = l0 := by
      intro z
      rw [← z, el0] at ewn
      exact ((nI_eq (by omega) (by omega)).mp ewn).symm
    have hfl : fl = 0 ∨ (fl = 1 ∧ wn = l0 ∧ fk = 1) := by
      rcases hbr (by rw [eo]; decide) with z | ⟨z1, z2, z3⟩
      · exact Or.inl z
      · exact Or.inr ⟨z1, hwl (z2 x hx), z3⟩
    refine fd_brfin (o := 12) (a := nI x) (b := nI t) (c := cA p) (wn := wn) (l0 := l0) (rgB := upd (upd rg (2 * R) (rg (2 * R) ^^^ (fd_sig p ^^^ fd_sig (p + 1)))) (2 * R) (upd rg (2 * R) (rg (2 * R) ^^^ (fd_sig p ^^^ fd_sig (p + 1))) (2 * R) ^^^ (if upd rg (2 * R) (rg (2 * R) ^^^ (fd_sig p ^^^ fd_sig (p + 1))) (x + R) = 0 then fd_sig (p + 1) ^^^ fd_sig t else 0))) hL24 hFt hss hB hwn hl0 hfl (fun z => hwl (z.2 x hx)) (fd_HA2 (fd_HA2 hA)) ?_ (by decide) (by decide) (by rw [eo]; decide) (by rw [eo]; decide) (fun post h => ?_) (fun Q hQ => fd_p12 (by omega) ?_) (fun Q ss hQ => fd_yb12 hP hL24 hp eo ea eb (by omega) (by rw [ewn]; exact hQ)) (fun Q ss hQ => fd_yb12 hP hL24 hp eo ea eb (by omega) (by rw [Nat.zero_add, el0]; exact hQ)) hcn' hOc H1
    · rw [pk_us, pk_us, pk_un (show x + R ≠ 2 * R from by omega), hA (x + R) (by omega), Nat.add_comm x R, Int32.xor_assoc, exn]
    · rw [et]
      exact fd_r18 hss hR8 (fd_r19 hss hR8 (by omega) h)
    · rw [pk_un (show x ≠ 2 * R from by omega), pk_un (show x ≠ 2 * R from by omega), hA x (by omega), el0]
      exact hQ
  -- 13: branch if less
  · have hp1 := hpl (by rw [eo]; decide)
    have et : fd_tail R p (oA p) (aA p) (bA p) (cA p) = [(18, fd_sig p ^^^ fd_sig (p + 1), 0, 0), (20, nI x + nI R, nI y + nI R, fd_sig (p + 1) ^^^ fd_sig (nI t).toNatClampNeg), (13, nI x, nI y, nI t)] := by rw [eo, ea, eb, ec]; rfl
    rw [nI_clamp (by omega), nI_add x R, nI_add y R] at et
    have hv : ∀ r r' : Int32, ∃ q, q ≤ L ∧ (if r' ≤ r then nI (p + 1) else nI t) = nI q ∧ (fd_sig p ^^^ fd_sig (p + 1)) ^^^ (if r' ≤ r then 0 else fd_sig (p + 1) ^^^ fd_sig t) = fd_sig p ^^^ fd_sig q := by
      intro r r'
      by_cases h0 : r' ≤ r
      · exact ⟨p + 1, hp1, if_pos h0, by rw [if_pos h0, Int32.xor_zero]⟩
      · exact ⟨t, ht, if_neg h0, by rw [if_neg h0, Int32.xor_assoc, fd_xx]⟩
    obtain ⟨wn, hwn, ewn, exn⟩ := hv (re (R + x)) (re (R + y))
    obtain ⟨l0, hl0, el0, _⟩ := hv (re x) (re y)
    have hwl : re x = re (R + x) → re y = re (R + y) → wn = l0 := by
      intro z z'
      rw [← z, ← z', el0] at ewn
      exact ((nI_eq (by omega) (by omega)).mp ewn).symm
    have hfl : fl = 0 ∨ (fl = 1 ∧ wn = l0 ∧ fk = 1) := by
      rcases hbr (by rw [eo]; decide) with z | ⟨z1, z2, z3⟩
      · exact Or.inl z
      · exact Or.inr ⟨z1, hwl (z2 x hx) (z2 y hy), z3⟩
    refine fd_brfin (o := 13) (a := nI x) (b := nI y) (c := nI t) (wn := wn) (l0 := l0) (rgB := upd (upd rg (2 * R) (rg (2 * R) ^^^ (fd_sig p ^^^ fd_sig (p + 1)))) (2 * R) (upd rg (2 * R) (rg (2 * R) ^^^ (fd_sig p ^^^ fd_sig (p + 1))) (2 * R) ^^^ (if upd rg (2 * R) (rg (2 * R) ^^^ (fd_sig p ^^^ fd_sig (p + 1))) (y + R) ≤ upd rg (2 * R) (rg (2 * R) ^^^ (fd_sig p ^^^ fd_sig (p + 1))) (x + R) then 0 else fd_sig (p + 1) ^^^ fd_sig t))) hL24 hFt hss hB hwn hl0 hfl (fun z => hwl (z.2 x hx) (z.2 y hy)) (fd_HA2 (fd_HA2 hA)) ?_ (by decide) (by decide) (by rw [eo]; decide) (by rw [eo]; decide) (fun post h => ?_) (fun Q hQ => fd_p13 (by omega) (by omega) ?_) (fun Q ss hQ => fd_yb13 hP hL24 hp eo ea eb ec (by omega) (by omega) (by rw [ewn]; exact hQ)) (fun Q ss hQ => fd_yb13 hP hL24 hp eo ea eb ec (by omega) (by omega) (by rw [Nat.zero_add, Nat.zero_add, el0]; exact hQ)) hcn' hOc H1
    · rw [pk_us, pk_us, pk_un (show x + R ≠ 2 * R from by omega), pk_un (show y + R ≠ 2 * R from by omega), hA (x + R) (by omega), hA (y + R) (by omega), Nat.add_comm x R, Nat.add_comm y R, Int32.xor_assoc, exn]
    · rw [et]
      exact fd_r18 hss hR8 (fd_r20 hss hR8 (by omega) (by omega) h)
    · rw [pk_un (show x ≠ 2 * R from by omega), pk_un (show x ≠ 2 * R from by omega), pk_un (show y ≠ 2 * R from by omega), pk_un (show y ≠ 2 * R from by omega), hA x (by omega), hA y (by omega), el0]
      exact hQ
end
section
variable {R C K F L : Nat} {hd cl fk fs fp fi fb st sd pl la nw fl : Int32} {oA aA bA cA kO kA kB kC en sg ss oc ed os ce rg pg re : Nat → Int32}
/-! Y: a step's parts -/
theorem fd_yA {post : Int32 → SY → Prop} {s p n : Nat} {z st' fl' : Int32} {re' : Nat → Int32} (hP : fd_Pg R K L oA aA bA cA pg) (hL : L ≤ 24) (hF8 : F ≤ 128) (hp : p ≤ L) (hF : s < F) (hz : (fk = 1 ∧ fs = nI s ∧ z = 1) ∨ (¬ (fk = 1 ∧ fs = nI s) ∧ z = 0))
    (hY : ∀ Q : SY → Prop, fk = 1 ∧ fs = nI s ∧ fp = 0 → Q (nI R, nI C, nI K, nI F, nI L, st', fk, fs, fp, fi, fb, hd, fl', pg, ce, os, oc, ss, ed, re') → wpY_flip Q (nI R, nI C, nI K, nI F, nI L, st, fk, fs, fp, fi, fb, hd, fl, pg, ce, os, oc, ss, ed, re) (nI p)) (hN : ¬ (fk = 1 ∧ fs = nI s ∧ fp = 0) → st' = st ∧ fl' = fl ∧ re' = re)
    (h : wY_run_154 post (wY_run_99 post 1 fk n) 1 fk (nI p) 0 (nI s) (oA p) z (nI R) (nI C) (nI K) (nI F) (nI L) st' fk fs fp fi fb hd fl' pg ce os oc ss ed re') : wY_run_99 post 1 fk (n + 1) (nI p) 0 (nI s) (nI R) (nI C) (nI K) (nI F) (nI L) st fk fs fp fi fb hd fl pg ce os oc ss ed re := by
  refine br_f (nI_ge hF (by omega)) (fd_yf0 hP hL hp ?_)
  by_cases h0 : fk = 1 ∧ fs = nI s ∧ fp = 0
  · rcases hz with ⟨z1, z2, rfl⟩ | ⟨zn, _⟩
    · exact br_t z1 (br_t z2 (br_f (by decide) (br_t h0.2.2 (hY _ h0 h))))
    · exact absurd ⟨h0.1, h0.2.1⟩ zn
  · obtain ⟨rfl, rfl, rfl⟩ := hN h0
    rcases hz with ⟨z1, z2, rfl⟩ | ⟨zn, rfl⟩
    · exact br_t z1 (br_t z2 (br_f (by decide) (br_f (fun e => h0 ⟨z1, z2, e⟩) h)))
    · exact br_c (fun e => br_f (fun e' => zn ⟨e, e'⟩) (br_t rfl h)) fun _ => br_t rfl h
theorem fd_yC {post : Int32 → SY → Prop} {s p n : Nat} {z st' fl' : Int32} {re' : Nat → Int32} (hz : (fk = 1 ∧ fs = nI s ∧ z = 1) ∨ (¬ (fk = 1 ∧ fs = nI s) ∧ z = 0))
    (hY : ∀ Q : SY → Prop, fk = 1 ∧ fs = nI s ∧ fp = 1 → Q (nI R, nI C, nI K, nI F, nI L, st', fk, fs, fp, fi, fb, hd, fl', pg, ce, os, oc, ss, ed, re') → wpY_flip Q (nI R, nI C, nI K, nI F, nI L, st, fk, fs, fp, fi, fb, hd, fl, pg, ce, os, oc, ss, ed, re) (nI p)) (hN : ¬ (fk = 1 ∧ fs = nI s ∧ fp = 1) → st' = st ∧ fl' = fl ∧ re' = re)
    (h : wY_run_199 post (wY_run_99 post 1 fk n) 1 fk (nI p) 0 (nI s) (oA p) (nI R) (nI C) (nI K) (nI F) (nI L) st' fk fs fp fi fb hd fl' pg ce os oc ss ed re') : wY_run_173 post (wY_run_99 post 1 fk n) 1 fk (nI p) 0 (nI s) (oA p) z (nI R) (nI C) (nI K) (nI F) (nI L) st fk fs fp fi fb hd fl pg ce os oc ss ed re := by
  refine br_t rfl ?_
  by_cases h0 : fk = 1 ∧ fs = nI s ∧ fp = 1
  · rcases hz with ⟨z1, z2, rfl⟩ | ⟨zn, _⟩
    · exact br_f (by decide) (br_t h0.2.2 (hY _ h0 h))
    · exact absurd ⟨h0.1, h0.2.1⟩ zn
  · obtain ⟨rfl, rfl, rfl⟩ := hN h0
    rcases hz with ⟨z1, z2, rfl⟩ | ⟨zn, rfl⟩
    · exact br_f (by decide) (br_f (fun e => h0 ⟨z1, z2, e⟩) h)
    · exact br_t rfl h
theorem fd_yB {post : Int32 → SY → Prop} {s p n : Nat} {z e : Int32} (hc : oA p = 0 ∨ ¬ oA p < 8) (hk : ∀ Q : Int32 → Prop, Q e → wpY_check Q (nI R, nI C, nI K, nI F, nI L, st, fk, fs, fp, fi, fb, hd, fl, pg, ce, os, oc, ss, ed, re) (nI p))
    (h : wY_run_173 post (wY_run_99 post 1 fk n) 1 fk (nI p) e (nI s) (oA p) z (nI R) (nI C) (nI K) (nI F) (nI L) st fk fs fp fi fb hd fl pg ce os oc ss ed re) : wY_run_154 post (wY_run_99 post 1 fk n) 1 fk (nI p) 0 (nI s) (oA p) z (nI R) (nI C) (nI K) (nI F) (nI L) st fk fs fp fi fb hd fl pg ce os oc ss ed re := by
  have z166 : wY_run_166 post (wY_run_99 post 1 fk n) 1 fk (nI p) (nI s) (oA p) z (nI R) (nI C) (nI K) (nI F) (nI L) st fk fs fp fi fb hd fl pg ce os oc ss ed re := by
    unfold wY_run_166
    exact hk _ h
  exact br_c (fun _ => z166) fun e0 => br_f (hc.resolve_left e0) z166
theorem fd_yBn {post : Int32 → SY → Prop} {s p n : Nat} {z : Int32} (hc : ¬ (oA p = 0 ∨ ¬ oA p < 8))
    (h : wY_run_173 post (wY_run_99 post 1 fk n) 1 fk (nI p) 0 (nI s) (oA p) z (nI R) (nI C) (nI K) (nI F) (nI L) st fk fs fp fi fb hd fl pg ce os oc ss ed re) : wY_run_154 post (wY_run_99 post 1 fk n) 1 fk (nI p) 0 (nI s) (oA p) z (nI R) (nI C) (nI K) (nI F) (nI L) st fk fs fp fi fb hd fl pg ce os oc ss ed re :=
  br_f (fun e => hc (Or.inl e)) (br_c (fun _ => h) fun e => absurd (Or.inr e) hc)
theorem fd_y294 {post : Int32 → SY → Prop} {p : Nat} {e : Int32} (he : ¬ e = 0) (h : post e (nI R, nI C, nI K, nI F, nI L, st, fk, fs, fp, fi, fb, hd, fl, pg, ce, os, oc, upd ss 1 e, upd ed 1 (nI p), re)) : wY_run_294 post 1 (nI p) e (nI R) (nI C) (nI K) (nI F) (nI L) st fk fs fp fi fb hd fl pg ce os oc ss ed re :=
  br_f he (fd_y313 (w := 1) (by decide) h)
/-! one step of the guarded run, both sides -/
def fd_HI (R L s p : Nat) (fk fs fl : Int32) (rg re oc : Nat → Int32) : Prop :=
  p ≤ L ∧ fd_HA R rg re ∧ fd_HB R p fl rg ∧ (fk = 1 → ∀ j, s ≤ j → j < 2 ^ 31 → fs = nI j → fd_CL R fl re) ∧ (∃ n, n ≤ s ∧ oc 1 = nI n) ∧ fd_Oc oc
theorem fd_hstep {P : Prop} {s p : Nat} (hz : fd_Sz R C K F L) (hP : fd_Pg R K L oA aA bA cA pg) (hFt : fd_Ft R L fk fi fb) (hH : fd_Hd R L oA aA bA cA kO kA kB kC en sg) (hss : ss 1 = 0) (hs : s < F) (hI : fd_HI R L s p fk fs fl rg re oc)
    (He : ∀ (e st' fl' : Int32) (rg' re' : Nat → Int32), ¬ e = 0 →
      (∀ post : SX → Prop, post (nI R, nI C, nI K, nI F, nI (2 * R), nI L, hd, cl, fk, fs, fp, fi, fb, st', 1, nI p, nI (p + 1), nI s, oA, aA, bA, cA, kO, kA, kB, kC, en, sg, upd ss 1 e, oc, ed, os, ce, rg') → wpX_hardStep post (nI R, nI C, nI K, nI F, nI (2 * R), nI L, hd, cl, fk, fs, fp, fi, fb, st, 1, nI p, la, nI s, oA, aA, bA, cA, kO, kA, kB, kC, en, sg, ss, oc, ed, os, ce, rg)) →
      (∀ (post : Int32 → SY → Prop) (n : Nat) (ss : Nat → Int32), post e (nI R, nI C, nI K, nI F, nI L, st', fk, fs, fp, fi, fb, hd, fl', pg, ce, os, oc, upd ss 1 e, upd ed 1 (nI p), re') → wY_run_99 post 1 fk (n + 1) (nI p) 0 (nI s) (nI R) (nI C) (nI K) (nI F) (nI L) st fk fs fp fi fb hd fl pg ce os oc ss ed re) → P)
    (H1 : ∀ (p' : Nat) (st' fl' : Int32) (os' oc' ce' rg' re' : Nat → Int32), fd_HI R L (s + 1) p' fk fs fl' rg' re' oc' →
      (∀ post : SX → Prop, post (nI R, nI C, nI K, nI F, nI (2 * R), nI L, hd, cl, fk, fs, fp, fi, fb, st', 1, nI p', nI p', nI s, oA, aA, bA, cA, kO, kA, kB, kC, en, sg, ss, oc', ed, os', ce', rg') → wpX_hardStep post (nI R, nI C, nI K, nI F, nI (2 * R), nI L, hd, cl, fk, fs, fp, fi, fb, st, 1, nI p, la, nI s, oA, aA, bA, cA, kO, kA, kB, kC, en, sg, ss, oc, ed, os, ce, rg)) →
      (∀ (post : Int32 → SY → Prop) (n : Nat) (ss : Nat → Int32), wY_run_99 post 1 fk n (nI p') 0 (nI (s + 1)) (nI R) (nI C) (nI K) (nI F) (nI L) st' fk fs fp fi fb hd fl' pg ce' os' oc' ss ed re' → wY_run_99 post 1 fk (n + 1) (nI p) 0 (nI s) (nI R) (nI C) (nI K) (nI F) (nI L) st fk fs fp fi fb hd fl pg ce os oc ss ed re) → P) : P := by
  have hzz := hz
  unfold fd_Sz at hzz
  obtain ⟨hp, hA, hB, hCL, hcn, hOc⟩ := hI
  have hL24 : L ≤ 24 := by omega
  have hR8 : R ≤ 8 := by omega
  have hF8 : F ≤ 128 := by omega
  have hV : fd_VI R L (oA p) (aA p) (bA p) (cA p) := hH.2.1 p (by omega)
  have hzz' : ∃ z : Int32, (fk = 1 ∧ fs = nI s ∧ z = 1) ∨ (¬ (fk = 1 ∧ fs = nI s) ∧ z = 0) := by
    by_cases h : fk = 1 ∧ fs = nI s
    · exact ⟨1, Or.inl ⟨h.1, h.2, rfl⟩⟩
    · exact ⟨0, Or.inr ⟨h, rfl⟩⟩
  obtain ⟨z, hzf⟩ := hzz'
  refine fd_flip (C := C) (F := F) (hd := hd) (cl := cl) (fk := fk) (fs := fs) (fp := fp) (fi := fi) (fb := fb) (st := st) (sd := 1) (pl := nI p) (la := nI (p + 1)) (kO := kO) (kA := kA) (kB := kB) (kC := kC) (en := en) (sg := sg) (ss := ss) (oc := oc) (ed := ed) (os := os) (ce := ce) (rg := rg) (re := re) (fl := fl) (ph := 0) (m := 0) (s := s) hR8 hP hL24 hp hFt hss hA hB (fun h => hCL h.1 s (Nat.le_refl _) (by omega) h.2.1) (fun i hi e0 => ⟨fun h => absurd h (fd_mb0 ⟨i, by omega⟩), fun h => absurd (e0.symm.trans h.1) (by decide)⟩) (fun st1 fl1 rg1 re1 hA1 hB1 hC1 hX1 hY1 => ?_)
  have hN1 : ¬ (fk = 1 ∧ fs = nI s ∧ fp = 0) → st1 = st ∧ fl1 = fl ∧ re1 = re := by
    intro hn
    rcases hC1 with ⟨h, _⟩ | ⟨_, h1, h2, _, h4⟩
    · exact absurd h hn
    · exact ⟨h1, h2, h4⟩
  have after : (¬ oA p < 8 → fl1 = 0) →
      (∀ (post : SX → Prop) (t : List fd_Q), fd_Run post t (nI R) (nI C) (nI K) (nI F) (nI (2 * R)) (nI L) hd cl fk fs fp fi fb st1 1 (nI p) (nI (p + 1)) (nI s) oA aA bA cA kO kA kB kC en sg ss oc ed os ce rg1 → fd_Run post (fd_chk R p (oA p) (aA p) (bA p) ++ t) (nI R) (nI C) (nI K) (nI F) (nI (2 * R)) (nI L) hd cl fk fs fp fi fb st1 1 (nI p) (nI (p + 1)) (nI s) oA aA bA cA kO kA kB kC en sg ss oc ed os ce rg1) →
      (∀ (post : Int32 → SY → Prop) (n : Nat) (ss : Nat → Int32), wY_run_173 post (wY_run_99 post 1 fk n) 1 fk (nI p) 0 (nI s) (oA p) z (nI R) (nI C) (nI K) (nI F) (nI L) st1 fk fs fp fi fb hd fl1 pg ce os oc ss ed re1 → wY_run_154 post (wY_run_99 post 1 fk n) 1 fk (nI p) 0 (nI s) (oA p) z (nI R) (nI C) (nI K) (nI F) (nI L) st1 fk fs fp fi fb hd fl1 pg ce os oc ss ed re1) → P := by
    intro hf8 hXb hYb
    have hcl1 : fk = 1 ∧ fs = nI s ∧ fp = 1 → fd_CL R fl1 re1 := by
      intro h
      obtain ⟨_, e2, e3⟩ := hN1 (fun h' => absurd (h'.2.2.symm.trans h.2.2) (by decide))
      rw [e2, e3]
      exact hCL h.1 s (Nat.le_refl _) (by omega) h.2.1
    refine fd_flip (C := C) (F := F) (hd := hd) (cl := cl) (fk := fk) (fs := fs) (fp := fp) (fi := fi) (fb := fb) (st := st1) (sd := 1) (pl := nI p) (la := nI (p + 1)) (kO := kO) (kA := kA) (kB := kB) (kC := kC) (en := en) (sg := sg) (ss := ss) (oc := oc) (ed := ed) (os := os) (ce := ce) (rg := rg1) (re := re1) (fl := fl1) (ph := 1) (m := if 10 < oA p then 0 else fd_mask (oA p) (aA p) (bA p)) (s := s) hR8 hP hL24 hp hFt hss hA1 hB1 hcl1 (fun i hi e1 => ?_) (fun st2 fl2 rg2 re2 hA2 hB2 hC2 hX2 hY2 => ?_)
    · rw [fd_mexp hR8 (by omega) hV]
      exact ⟨fun h => ⟨e1, h⟩, fun h => h.2⟩
    have hN2 : ¬ (fk = 1 ∧ fs = nI s ∧ fp = 1) → st2 = st1 ∧ fl2 = fl1 ∧ re2 = re1 := by
      intro hn
      rcases hC2 with ⟨h, _⟩ | ⟨_, h1, h2, _, h4⟩
      · exact absurd h hn
      · exact ⟨h1, h2, h4⟩
    have hbr : ¬ oA p < 8 → fl2 = 0 ∨ (fl2 = 1 ∧ (∀ i, i < R → re2 i = re2 (R + i)) ∧ fk = 1) := by
      intro h8
      rcases hC2 with ⟨h, h0 | ⟨h1, hm⟩⟩ | ⟨_, _, h2, _⟩
      · exact Or.inl h0
      · exact Or.inr ⟨h1, hm, h.1⟩
      · exact Or.inl (h2.trans (hf8 h8))
    have hXall : ∀ post : SX → Prop, fd_Run post (fd_tail R p (oA p) (aA p) (bA p) (cA p)) (nI R) (nI C) (nI K) (nI F) (nI (2 * R)) (nI L) hd cl fk fs fp fi fb st2 1 (nI p) (nI (p + 1)) (nI s) oA aA bA cA kO kA kB kC en sg ss oc ed os ce rg2 → wpX_hardStep post (nI R, nI C, nI K, nI F, nI (2 * R), nI L, hd, cl, fk, fs, fp, fi, fb, st, 1, nI p, la, nI s, oA, aA, bA, cA, kO, kA, kB, kC, en, sg, ss, oc, ed, os, ce, rg) := by
      intro post h
      refine fd_xhs hR8 hL24 hp hH ?_
      unfold fd_code
      exact hX1 post _ (hXb post _ (hX2 post _ h))
    have hYall : ∀ (post : Int32 → SY → Prop) (n : Nat) (ss : Nat → Int32), wY_run_199 post (wY_run_99 post 1 fk n) 1 fk (nI p) 0 (nI s) (oA p) (nI R) (nI C) (nI K) (nI F) (nI L) st2 fk fs fp fi fb hd fl2 pg ce os oc ss ed re2 → wY_run_99 post 1 fk (n + 1) (nI p) 0 (nI s) (nI R) (nI C) (nI K) (nI F) (nI L) st fk fs fp fi fb hd fl pg ce os oc ss ed re := by
      intro post n ss h
      exact fd_yA hP hL24 hF8 hp hs hzf (fun Q => hY1 Q ss) hN1 (hYb post n ss (fd_yC hzf (fun Q => hY2 Q ss) hN2 h))
    refine fd_exec (C := C) (F := F) (hd := hd) (cl := cl) (fk := fk) (fs := fs) (fp := fp) (fi := fi) (fb := fb) (st := st2) (kO := kO) (kA := kA) (kB := kB) (kC := kC) (en := en) (sg := sg) (ss := ss) (oc := oc) (ed := ed) (os := os) (ce := ce) (rg := rg2) (re := re2) (fl := fl2) (s := s) (p := p) hz hP hV hFt hss hp hs hA2 hB2 hbr hcn hOc (fun h0 => ?_) (fun p' st' fl' os' oc' ce' rg' re' hp' hA' hB' hCL' hcn' hOc' hX' hY' => ?_)
    · refine He 1 st2 fl2 rg2 re2 (by decide) (fun post h => hXall post ?_) (fun post n ss h => hYall post n ss ?_)
      · have et : fd_tail R p (oA p) (aA p) (bA p) (cA p) = [(0, 0, 0, 0)] := by
          unfold fd_tail
          rw [if_pos h0]
        rw [et]
        exact fd_r0 hss h
      · exact br_t h0 (fd_y294 (by decide) h)
    · refine H1 p' st' fl' os' oc' ce' rg' re' ⟨hp', hA', hB', fun hk j hj hj2 ej => ?_, hcn', hOc'⟩ (fun post h => hXall post (hX' post h)) (fun post n ss h => hYall post n ss (hY' post n ss h))
      have hne : ¬ fs = nI s := by
        intro e
        have := (nI_eq hj2 (by omega)).mp (ej.symm.trans e)
        omega
      refine hCL' hk ?_
      obtain ⟨_, e2, e3⟩ := hN2 (fun h => hne h.2.1)
      obtain ⟨_, e4, e5⟩ := hN1 (fun h => hne h.2.1)
      rw [e2, e3, e4, e5]
      exact hCL hk j (by omega) hj2 ej
  by_cases hc : oA p = 0 ∨ ¬ oA p < 8
  · refine fd_check (C := C) (F := F) (hd := hd) (cl := cl) (fk := fk) (fs := fs) (fp := fp) (fi := fi) (fb := fb) (st := st1) (sd := 1) (pl := nI p) (la := nI (p + 1)) (nw := nI s) (kO := kO) (kA := kA) (kB := kB) (kC := kC) (en := en) (sg := sg) (ss := ss) (oc := oc) (ed := ed) (os := os) (ce := ce) (rg := rg1) (re := re1) (fl := fl1) (p := p) hR8 hP hV hL24 hp hss hA1 hB1 hc (fun e he hXc hYc => ?_) (fun h0 hXc hYc => ?_)
    · refine He e st1 fl1 rg1 re1 he (fun post h => ?_) (fun post n ss h => ?_)
      · refine fd_xhs hR8 hL24 hp hH ?_
        unfold fd_code
        exact hX1 post _ (hXc post _ h)
      · exact fd_yA hP hL24 hF8 hp hs hzf (fun Q => hY1 Q ss) hN1 (fd_yB hc (fun Q => hYc Q ss) (br_f he (fd_y294 he h)))
    · exact after (fun _ => h0) hXc (fun post n ss h => fd_yB hc (fun Q => hYc Q ss) h)
  · have ec : fd_chk R p (oA p) (aA p) (bA p) = [] := by
      unfold fd_chk
      rw [if_neg hc]
    refine after (fun h8 => absurd (Or.inr h8) hc) (fun post t h => ?_) (fun post n ss h => fd_yBn hc h)
    rw [ec]
    exact h
end
section
variable {R C K F L : Nat} {hd cl fk fs fp fi fb st sd pl la nw fl : Int32} {oA aA bA cA kO kA kB kC en sg ss oc ed os ce rg pg re : Nat → Int32}
theorem fd_x119 {post : Int32 → SX → Prop} {e : Int32} (h : post e (nI R, nI C, nI K, nI F, nI (2 * R), nI L, hd, cl, fk, fs, fp, fi, fb, st, sd, pl, la, nw, oA, aA, bA, cA, kO, kA, kB, kC, en, sg, upd ss 1 e, oc, upd ed 1 pl, os, ce, rg)) : wX_runHard_119 post (nI R) (nI C) (nI K) (nI F) (nI (2 * R)) (nI L) hd cl fk fs fp fi fb st sd pl la nw oA aA bA cA kO kA kB kC en sg (upd ss 1 e) oc ed os ce rg := by
  unfold wX_runHard_119
  rw [pk_us]
  exact nm_e h
theorem fd_x68e {post : Int32 → SX → Prop} {e : Int32} (he : ¬ e = 0) (h : post e (nI R, nI C, nI K, nI F, nI (2 * R), nI L, hd, cl, fk, fs, fp, fi, fb, st, sd, pl, la, nw, oA, aA, bA, cA, kO, kA, kB, kC, en, sg, upd ss 1 e, oc, upd ed 1 pl, os, ce, rg)) : wX_runHard_68 post (nI R) (nI C) (nI K) (nI F) (nI (2 * R)) (nI L) hd cl fk fs fp fi fb st sd pl la nw oA aA bA cA kO kA kB kC en sg (upd ss 1 e) oc ed os ce rg :=
  br_f (by rw [pk_us]; exact he) (fd_x119 h)
theorem fd_x68o {post : Int32 → SX → Prop} {p : Nat} {e : Int32} (hR8 : R ≤ 8) (hp : p < 25) (hss : ss 1 = 0) (hsg : sg p = fd_sig p) (hB : fd_HB R p fl rg) (he : (fl = 0 ∧ e = 2) ∨ (fl = 1 ∧ e = 4))
    (h : post e (nI R, nI C, nI K, nI F, nI (2 * R), nI L, hd, cl, fk, fs, fp, fi, fb, st, sd, nI p, la, nw, oA, aA, bA, cA, kO, kA, kB, kC, en, sg, upd ss 1 e, oc, upd ed 1 (nI p), os, ce, rg)) : wX_runHard_68 post (nI R) (nI C) (nI K) (nI F) (nI (2 * R)) (nI L) hd cl fk fs fp fi fb st sd (nI p) la nw oA aA bA cA kO kA kB kC en sg ss oc ed os ce rg := by
  have hv : vp_in (1 : Int32) 2 := vp_in_nI (n := 1) (by decide) (by decide)
  have z118 : wX_runHard_118 post e 1 (nI R) (nI C) (nI K) (nI F) (nI (2 * R)) (nI L) hd cl fk fs fp fi fb st sd (nI p) la nw oA aA bA cA kO kA kB kC en sg ss oc ed os ce rg := ⟨hv, nm_r (e' := upd ss 1 e) rfl (fd_x119 h)⟩
  refine br_t hss ⟨vp_in_nI (by omega) (by decide), vp_in_nI hp (by decide), ?_⟩
  rw [nI_clamp (n := 2 * R) (by omega), nI_clamp (n := p) (by omega), hsg]
  rcases he with ⟨e0, rfl⟩ | ⟨e1, rfl⟩
  · rcases hB with ⟨_, h2⟩ | ⟨h1, _⟩
    · exact br_t h2 (br_f (by decide) z118)
    · exact absurd (e0.symm.trans h1) (by decide)
  · rcases hB with ⟨h1, _⟩ | ⟨_, h2⟩
    · exact absurd (h1.symm.trans e1) (by decide)
    · exact br_f h2 (br_t rfl z118)
theorem fd_hrun (hz : fd_Sz R C K F L) (hP : fd_Pg R K L oA aA bA cA pg) (hFt : fd_Ft R L fk fi fb) (hH : fd_Hd R L oA aA bA cA kO kA kB kC en sg) : ∀ (d s p : Nat) (st la nw fl : Int32) (os oc ce rg re : Nat → Int32), s + d = F → fd_HI R L s p fk fs fl rg re oc →
    ∃ (e : Int32) (p' : Nat) (st' la' nw' fl' : Int32) (os' oc' ce' rg' re' : Nat → Int32), fd_Oc oc' ∧
      (∀ (post : Int32 → SX → Prop) (n : Nat), d < n → post e (nI R, nI C, nI K, nI F, nI (2 * R), nI L, hd, cl, fk, fs, fp, fi, fb, st', 1, nI p', la', nw', oA, aA, bA, cA, kO, kA, kB, kC, en, sg, upd ss 1 e, oc', upd ed 1 (nI p'), os', ce', rg') → wX_runHard_36 post n (nI s) (nI R) (nI C) (nI K) (nI F) (nI (2 * R)) (nI L) hd cl fk fs fp fi fb st 1 (nI p) la nw oA aA bA cA kO kA kB kC en sg (upd ss 1 0) oc ed os ce rg) ∧
      (∀ (post : Int32 → SY → Prop) (n : Nat), d < n → post e (nI R, nI C, nI K, nI F, nI L, st', fk, fs, fp, fi, fb, hd, fl', pg, ce', os', oc', upd ss 1 e, upd ed 1 (nI p'), re') → wY_run_99 post 1 fk n (nI p) 0 (nI s) (nI R) (nI C) (nI K) (nI F) (nI L) st fk fs fp fi fb hd fl pg ce os oc ss ed re) := by
  have hz2 := hz
  unfold fd_Sz at hz2
  intro d
  induction d with
  | zero =>
    intro s p st la nw fl os oc ce rg re hs hI
    obtain ⟨hp, hA, hB, hCL, hcn, hOc⟩ := hI
    have he : ∃ e : Int32, ((fl = 0 ∧ e = 2) ∨ (fl = 1 ∧ e = 4)) := by
      rcases hB with ⟨h1, _⟩ | ⟨h1, _⟩
      · exact ⟨2, Or.inl ⟨h1, rfl⟩⟩
      · exact ⟨4, Or.inr ⟨h1, rfl⟩⟩
    obtain ⟨e, he⟩ := he
    refine ⟨e, p, st, la, nw, fl, os, oc, ce, rg, re, hOc, fun post n hn h => ?_, fun post n hn h => ?_⟩
    · obtain ⟨n, rfl, hm⟩ := fd_suc hn
      refine br_t (nI_le (by omega) (by omega)) (fd_x68o (by omega) (by omega) pk_us (hH.2.2.1 p hp) hB he ?_)
      rw [fd_uu]
      exact h
    · obtain ⟨n, rfl, hm⟩ := fd_suc hn
      refine br_t (nI_le (by omega) (by omega)) (br_t rfl ?_)
      rcases he with ⟨rfl, rfl⟩ | ⟨rfl, rfl⟩
      · exact br_t rfl (fd_y313 (w := 1) (by decide) h)
      · exact br_f (by decide) (fd_y313 (w := 1) (by decide) h)
  | succ d ih =>
    intro s p st la nw fl os oc ce rg re hs hI
    refine fd_hstep (C := C) (F := F) (hd := hd) (cl := cl) (fk := fk) (fs := fs) (fp := fp) (fi := fi) (fb := fb) (st := st) (la := la) (kO := kO) (kA := kA) (kB := kB) (kC := kC) (en := en) (sg := sg) (ss := upd ss 1 0) (oc := oc) (ed := ed) (os := os) (ce := ce) (rg := rg) (re := re) (fl := fl) (s := s) (p := p) hz hP hFt hH pk_us (by omega) hI (fun e st' fl' rg' re' he hX hY => ?_) (fun p' st' fl' os' oc' ce' rg' re' hI' hX hY => ?_)
    · refine ⟨e, p, st', nI (p + 1), nI s, fl', os, oc, ce, rg', re', hI.2.2.2.2.2, fun post n hn h => ?_, fun post n hn h => ?_⟩
      · obtain ⟨n, rfl⟩ : ∃ m, n = m + 2 := ⟨n - 2, by omega⟩
        refine br_f (nI_ge (by omega) (by omega)) (br_t pk_us (hX _ (nm_r (nI_1 s) ?_)))
        rw [fd_uu]
        have z := fd_x68e he h
        have hne : ¬ upd ss 1 e 1 = 0 := by rw [pk_us]; exact he
        exact br_c (fun _ => z) fun _ => br_f hne z
      · obtain ⟨n, rfl, hm⟩ := fd_suc hn
        exact hY post n ss h
    · obtain ⟨e, p2, st2, la2, nw2, fl2, os2, oc2, ce2, rg2, re2, hOc, hX2, hY2⟩ := ih (s + 1) p' st' (nI p') (nI s) fl' os' oc' ce' rg' re' (by omega) hI'
      refine ⟨e, p2, st2, la2, nw2, fl2, os2, oc2, ce2, rg2, re2, hOc, fun post n hn h => ?_, fun post n hn h => ?_⟩
      · obtain ⟨n, rfl, hm⟩ := fd_suc hn
        refine br_f (nI_ge (by omega) (by omega)) (br_t pk_us (hX _ (nm_r (nI_1 s) ?_)))
        exact hX2 post n (by omega) h
      · obtain ⟨n, rfl, hm⟩ := fd_suc hn
        exact hY post n ss (hY2 post n (by omega) h)
theorem fd_vrunHard {k : Nat} (h : fd_F R C K F L hd fk fi fb oA aA bA cA kO kA kB kC en sg oc pg) : wpX_runHard (fun r u' => wpY_runHard (fun r' v' => r' = r ∧ i_Rel (k + 5) u' v') (nI R, nI C, nI K, nI F, nI L, st, fk, fs, fp, fi, fb, hd, fl, pg, ce, os, oc, ss, ed, re)) (nI R, nI C, nI K, nI F, nI (2 * R), nI L, hd, cl, fk, fs, fp, fi, fb, st, sd, pl, la, nw, oA, aA, bA, cA, kO, kA, kB, kC, en, sg, ss, oc, ed, os, ce, rg) := by
  have hs := h.1
  unfold fd_Sz at hs
  have hOc := h.2.2.2.1
  unfold wpX_runHard
  rcases h.2.2.2.2 with hh | ⟨hh, hHd⟩
  · refine br_t hh ?_
    unfold wpY_runHard wpY_run
    exact br_t hh ⟨rfl, fd_in h⟩
  · have hn0 : ¬ hd = 0 := by rw [hh]; decide
    refine br_f hn0 (fd_xbegin (w := 1) (by decide) ⟨vp_in_nI (by omega) (by decide), nm_r (e' := upd (fd_fl rg 0 17 0) (2 * R) (sg 0)) (by rw [nI_clamp (by omega)]) ?_⟩)
    have hI : fd_HI R L 0 0 fk fs 0 (upd (fd_fl rg 0 17 0) (2 * R) (sg 0)) (fd_fl re 0 16 0) (upd oc 1 0) := by
      refine ⟨Nat.zero_le _, fun i hi => ?_, Or.inl ⟨rfl, by rw [pk_us]; exact hHd.2.2.1 0 (Nat.zero_le _)⟩, fun _ j _ _ _ => ⟨rfl, fun i hi => ?_⟩, ⟨0, Nat.le_refl _, pk_us⟩, fd_Ocu (n := 0) hOc (by omega)⟩
      · rw [pk_un (by omega), fd_fli (by omega) (by omega), fd_fli (by omega) (by omega)]
      · rw [fd_fli (by omega) (by omega), fd_fli (by omega) (by omega)]
    obtain ⟨e, p', st', la', nw', fl', os', oc', ce', rg', re', hOc', hX, hY⟩ := fd_hrun (C := C) (F := F) (hd := hd) (cl := cl) (fk := fk) (fs := fs) (fp := fp) (fi := fi) (fb := fb) (kO := kO) (kA := kA) (kB := kB) (kC := kC) (en := en) (sg := sg) (ss := ss) (ed := ed) h.1 h.2.1 h.2.2.1 hHd F 0 0 0 la nw 0 os (upd oc 1 0) (fd_cp ce 1 16) (upd (fd_fl rg 0 17 0) (2 * R) (sg 0)) (fd_fl re 0 16 0) (by omega) hI
    refine ⟨F + 1, hX _ (F + 1) (by omega) ?_⟩
    unfold wpY_runHard wpY_run
    refine br_f hn0 (br_t rfl ⟨17, ?_⟩)
    refine fd_yr31 (w := 1) (by decide) (br_t rfl ⟨F + 1, ?_⟩) 16 0 17 ce re (by decide) (by decide) fd_cp0.symm fd_fl0.symm
    refine hY _ (F + 1) (by omega) ?_
    exact ⟨rfl, fd_in ⟨h.1, h.2.1, h.2.2.1, hOc', h.2.2.2.2⟩⟩
end
section
theorem i_vc0 (k0 : Int32) (k1 : Int32) (k2 : Int32) (k3 : Int32) : wpX_init (fun u => wpY_init (fun v => i_Rel 4 u v) k0 k1 k2 k3) k0 k1 k2 k3 := fd_v0 k0 k1 k2 k3
theorem i_vc_emit {k : Nat} {u : SX} {v : SY} (I : i_Rel k u v) (hk : k + 5 ≤ 2564) (v1 : Int32) (v2 : Int32) (v3 : Int32) (v4 : Int32) : wpX_emit (fun r u' => wpY_emit (fun r' v' => r' = r ∧ i_Rel (k + 5) u' v') v v1 v2 v3 v4) u v1 v2 v3 v4 :=
  fd_el (P := fun u v => wpX_emit (fun r u' => wpY_emit (fun r' v' => r' = r ∧ i_Rel (k + 5) u' v') v v1 v2 v3 v4) u v1 v2 v3 v4) (fun h => fd_vemit h) I
theorem i_vc_clear {k : Nat} {u : SX} {v : SY} (I : i_Rel k u v) (hk : k + 5 ≤ 2564) : wpX_clear (fun r u' => wpY_clear (fun r' v' => r' = r ∧ i_Rel (k + 5) u' v') v) u :=
  fd_el (P := fun u v => wpX_clear (fun r u' => wpY_clear (fun r' v' => r' = r ∧ i_Rel (k + 5) u' v') v) u) (fun h => fd_vclear h) I
theorem i_vc_poke {k : Nat} {u : SX} {v : SY} (I : i_Rel k u v) (hk : k + 5 ≤ 2564) (v1 : Int32) (v2 : Int32) : wpX_poke (fun r u' => wpY_poke (fun r' v' => r' = r ∧ i_Rel (k + 5) u' v') v v1 v2) u v1 v2 :=
  fd_el (P := fun u v => wpX_poke (fun r u' => wpY_poke (fun r' v' => r' = r ∧ i_Rel (k + 5) u' v') v v1 v2) u v1 v2) (fun h => fd_vpoke h) I
theorem i_vc_harden {k : Nat} {u : SX} {v : SY} (I : i_Rel k u v) (hk : k + 5 ≤ 2564) : wpX_harden (fun r u' => wpY_harden (fun r' v' => r' = r ∧ i_Rel (k + 5) u' v') v) u :=
  fd_el (P := fun u v => wpX_harden (fun r u' => wpY_harden (fun r' v' => r' = r ∧ i_Rel (k + 5) u' v') v) u) (fun h => fd_vharden h) I
theorem i_vc_armFlip {k : Nat} {u : SX} {v : SY} (I : i_Rel k u v) (hk : k + 5 ≤ 2564) (v1 : Int32) (v2 : Int32) (v3 : Int32) (v4 : Int32) : wpX_armFlip (fun r u' => wpY_armFlip (fun r' v' => r' = r ∧ i_Rel (k + 5) u' v') v v1 v2 v3 v4) u v1 v2 v3 v4 :=
  fd_el (P := fun u v => wpX_armFlip (fun r u' => wpY_armFlip (fun r' v' => r' = r ∧ i_Rel (k + 5) u' v') v v1 v2 v3 v4) u v1 v2 v3 v4) (fun h => fd_varmFlip h) I
theorem i_vc_armRedirect {k : Nat} {u : SX} {v : SY} (I : i_Rel k u v) (hk : k + 5 ≤ 2564) (v1 : Int32) (v2 : Int32) : wpX_armRedirect (fun r u' => wpY_armRedirect (fun r' v' => r' = r ∧ i_Rel (k + 5) u' v') v v1 v2) u v1 v2 :=
  fd_el (P := fun u v => wpX_armRedirect (fun r u' => wpY_armRedirect (fun r' v' => r' = r ∧ i_Rel (k + 5) u' v') v v1 v2) u v1 v2) (fun h => fd_varmRedirect h) I
theorem i_vc_disarm {k : Nat} {u : SX} {v : SY} (I : i_Rel k u v) (hk : k + 5 ≤ 2564) : wpX_disarm (fun r u' => wpY_disarm (fun r' v' => r' = r ∧ i_Rel (k + 5) u' v') v) u :=
  fd_el (P := fun u v => wpX_disarm (fun r u' => wpY_disarm (fun r' v' => r' = r ∧ i_Rel (k + 5) u' v') v) u) (fun h => fd_vdisarm h) I
theorem i_vc_runSource {k : Nat} {u : SX} {v : SY} (I : i_Rel k u v) (hk : k + 5 ≤ 2564) : wpX_runSource (fun r u' => wpY_runSource (fun r' v' => r' = r ∧ i_Rel (k + 5) u' v') v) u :=
  fd_el (P := fun u v => wpX_runSource (fun r u' => wpY_runSource (fun r' v' => r' = r ∧ i_Rel (k + 5) u' v') v) u) (fun h => fd_vrunSource h) I
theorem i_vc_runHard {k : Nat} {u : SX} {v : SY} (I : i_Rel k u v) (hk : k + 5 ≤ 2564) : wpX_runHard (fun r u' => wpY_runHard (fun r' v' => r' = r ∧ i_Rel (k + 5) u' v') v) u :=
  fd_el (P := fun u v => wpX_runHard (fun r u' => wpY_runHard (fun r' v' => r' = r ∧ i_Rel (k + 5) u' v') v) u) (fun h => fd_vrunHard h) I
theorem i_vc_status {k : Nat} {u : SX} {v : SY} (I : i_Rel k u v) (hk : k + 5 ≤ 2564) (v1 : Int32) : wpX_status (fun r => wpY_status (fun r' => r' = r ∧ i_Rel (k + 5) u v) v v1) u v1 :=
  fd_el (P := fun u v => wpX_status (fun r => wpY_status (fun r' => r' = r ∧ i_Rel (k + 5) u v) v v1) u v1) (fun h => fd_vstatus h) I
theorem i_vc_outCount {k : Nat} {u : SX} {v : SY} (I : i_Rel k u v) (hk : k + 5 ≤ 2564) (v1 : Int32) : wpX_outCount (fun r => wpY_outCount (fun r' => r' = r ∧ i_Rel (k + 5) u v) v v1) u v1 :=
  fd_el (P := fun u v => wpX_outCount (fun r => wpY_outCount (fun r' => r' = r ∧ i_Rel (k + 5) u v) v v1) u v1) (fun h => fd_voutCount h) I
theorem i_vc_out {k : Nat} {u : SX} {v : SY} (I : i_Rel k u v) (hk : k + 5 ≤ 2564) (v1 : Int32) (v2 : Int32) : wpX_out (fun r => wpY_out (fun r' => r' = r ∧ i_Rel (k + 5) u v) v v1 v2) u v1 v2 :=
  fd_el (P := fun u v => wpX_out (fun r => wpY_out (fun r' => r' = r ∧ i_Rel (k + 5) u v) v v1 v2) u v1 v2) (fun h => fd_vout h) I
theorem i_vc_cell {k : Nat} {u : SX} {v : SY} (I : i_Rel k u v) (hk : k + 5 ≤ 2564) (v1 : Int32) (v2 : Int32) : wpX_cell (fun r => wpY_cell (fun r' => r' = r ∧ i_Rel (k + 5) u v) v v1 v2) u v1 v2 :=
  fd_el (P := fun u v => wpX_cell (fun r => wpY_cell (fun r' => r' = r ∧ i_Rel (k + 5) u v) v v1 v2) u v1 v2) (fun h => fd_vcell h) I
theorem i_vc_endAt {k : Nat} {u : SX} {v : SY} (I : i_Rel k u v) (hk : k + 5 ≤ 2564) (v1 : Int32) : wpX_endAt (fun r => wpY_endAt (fun r' => r' = r ∧ i_Rel (k + 5) u v) v v1) u v1 :=
  fd_el (P := fun u v => wpX_endAt (fun r => wpY_endAt (fun r' => r' = r ∧ i_Rel (k + 5) u v) v v1) u v1) (fun h => fd_vendAt h) I
theorem i_vc_field {k : Nat} {u : SX} {v : SY} (I : i_Rel k u v) (hk : k + 5 ≤ 2564) (v1 : Int32) (v2 : Int32) : wpX_field (fun r => wpY_field (fun r' => r' = r ∧ i_Rel (k + 5) u v) v v1 v2) u v1 v2 :=
  fd_el (P := fun u v => wpX_field (fun r => wpY_field (fun r' => r' = r ∧ i_Rel (k + 5) u v) v v1 v2) u v1 v2) (fun h => fd_vfield h) I
theorem i_vc_info {k : Nat} {u : SX} {v : SY} (I : i_Rel k u v) (hk : k + 5 ≤ 2564) (v1 : Int32) : wpX_info (fun r => wpY_info (fun r' => r' = r ∧ i_Rel (k + 5) u v) v v1) u v1 :=
  fd_el (P := fun u v => wpX_info (fun r => wpY_info (fun r' => r' = r ∧ i_Rel (k + 5) u v) v v1) u v1) (fun h => fd_vinfo h) I
end
