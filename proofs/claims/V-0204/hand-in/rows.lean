section
/-! rows of kit/rows/PURE-ROWS (a starting text) -/
theorem pk_us {f : Nat → Int32} {k : Nat} {x : Int32} : upd f k x k = x := if_pos rfl
theorem pk_un {f : Nat → Int32} {k j : Nat} {x : Int32} (h : j ≠ k) : upd f k x j = f j := if_neg h
theorem pk_sub {a b : Nat} (h : b ≤ a) : nI a - nI b = nI (a - b) := by
  obtain ⟨c, rfl⟩ : ∃ c, a = c + b := ⟨a - b, by omega⟩
  rw [← nI_add, Int32.add_sub_cancel, Nat.add_sub_cancel]
theorem pk_mul (a b : Nat) : nI a * nI b = nI (a * b) := (Int32.ofNat_mul a b).symm
theorem pk_div {a d : Nat} (ha : a < 2 ^ 31) (h0 : 0 < d) (hd : d < 2 ^ 31) : nI a / nI d = nI (a / d) := by
  apply Int32.toInt_inj.mp
  rw [lg_idiv_nonneg (by rw [nI_toInt ha]; omega) (by rw [nI_toInt hd]; omega), nI_toInt ha, nI_toInt hd, nI_toInt (Nat.lt_of_le_of_lt (Nat.div_le_self a d) ha)]
  first | rfl | exact (Int.natCast_ediv _ _).symm
theorem pk_rem {a d : Nat} (ha : a < 2 ^ 31) (h0 : 0 < d) (hd : d < 2 ^ 31) : nI a - nI a / nI d * nI d = nI (a % d) := by
  rw [pk_div ha h0 hd, pk_mul, pk_sub (Nat.div_mul_le_self a d)]
  exact congrArg nI (by have := Nat.div_add_mod' a d; omega)
theorem pk_sub_toInt {a b : Nat} (ha : a < 2 ^ 30) (hb : b < 2 ^ 30) : (nI a - nI b).toInt = (a : Int) - b := by
  rw [Int32.toInt_sub, nI_toInt (by omega), nI_toInt (by omega)]
  exact Int.bmod_eq_of_le (by omega) (by omega)
theorem pk_sneg {a b : Nat} (hb : b < 2 ^ 30) (h : a < b) : nI a - nI b < 0 := by
  rw [Int32.lt_iff_toInt_lt, pk_sub_toInt (by omega) hb, show (0 : Int32).toInt = 0 from by decide]
  omega
theorem pk_ix (x : Int32) {n : Nat} (hn : n < 2 ^ 31) : x < 0 ∨ nI n ≤ x ∨ ∃ j : Nat, j < n ∧ x = nI j := by
  by_cases h : x < 0
  · exact Or.inl h
  · obtain ⟨j, hj, rfl⟩ := nI_of h
    by_cases h2 : j < n
    · exact Or.inr (Or.inr ⟨j, h2, rfl⟩)
    · exact Or.inr (Or.inl (nI_le (by omega) hj))
theorem pk_le {x y : Int32} {A B : Prop} (a b : Nat) (f : a ≤ b → A) (g : b < a → B) (hx : x = nI a := by rfl) (hy : y = nI b := by rfl) (ha : a < 2 ^ 31 := by omega) (hb : b < 2 ^ 31 := by omega) : (x ≤ y → A) ∧ (¬ x ≤ y → B) := by
  subst hx hy
  rw [nI_leI ha hb]
  exact ⟨f, fun z => g (by omega)⟩
theorem pk_lt {x y : Int32} {A B : Prop} (a b : Nat) (f : a < b → A) (g : b ≤ a → B) (hx : x = nI a := by rfl) (hy : y = nI b := by rfl) (ha : a < 2 ^ 31 := by omega) (hb : b < 2 ^ 31 := by omega) : (x < y → A) ∧ (¬ x < y → B) := by
  subst hx hy
  rw [nI_ltI ha hb]
  exact ⟨f, fun z => g (by omega)⟩
theorem pk_eq {x y : Int32} {A B : Prop} (a b : Nat) (f : a = b → A) (g : a ≠ b → B) (hx : x = nI a := by rfl) (hy : y = nI b := by rfl) (ha : a < 2 ^ 31 := by omega) (hb : b < 2 ^ 31 := by omega) : (x = y → A) ∧ (¬ x = y → B) := by
  subst hx hy
  rw [nI_eq ha hb]
  exact ⟨f, g⟩
theorem pk_in {x : Int32} (n N : Nat) (h : n < N) (hx : x = nI n := by rfl) (hN : N < 2 ^ 31 := by omega) : vp_in x N := by
  subst hx
  exact vp_in_nI h hN
theorem pk_cl {x : Int32} (n : Nat) (hx : x = nI n := by rfl) (h : n < 2 ^ 31 := by omega) : x.toNatClampNeg = n := by
  subst hx
  exact nI_clamp h
theorem pk_tn {n : Nat} (h : n < 2 ^ 32) : (nI n).toBitVec.toNat = n := Nat.mod_eq_of_lt h
theorem pk_and (x : Int32) {m : Int32} (k : Nat) (hm : m.toBitVec.toNat = 2 ^ k - 1) : x &&& m = nI (x.toBitVec.toNat % 2 ^ k) := by
  apply Int32.toBitVec_inj.mp
  apply BitVec.eq_of_toNat_eq
  rw [Int32.toBitVec_and, BitVec.toNat_and, hm, Nat.and_two_pow_sub_one_eq_mod]
  show _ = (BitVec.ofNat 32 _).toNat
  rw [BitVec.toNat_ofNat]
  exact (Nat.mod_eq_of_lt (Nat.lt_of_le_of_lt (Nat.mod_le _ _) x.toBitVec.isLt)).symm
theorem pk_andN {n : Nat} (h : n < 2 ^ 32) {m : Int32} (k : Nat) (hm : m.toBitVec.toNat = 2 ^ k - 1) : nI n &&& m = nI (n % 2 ^ k) := by
  rw [pk_and _ k hm, pk_tn h]
theorem pk_shr (a s : Int32) (k : Nat) (hs : (s.toBitVec.smod 32).toNat = k) : (a >>> s).toInt = a.toInt >>> k := by
  show (a.toBitVec.sshiftRight (s.toBitVec.smod 32).toNat).toInt = _
  rw [hs, BitVec.toInt_sshiftRight]
  rfl
theorem pk_shrN {n : Nat} (h : n < 2 ^ 31) (s : Int32) (k : Nat) (hs : (s.toBitVec.smod 32).toNat = k) : nI n >>> s = nI (n / 2 ^ k) := by
  apply Int32.toInt_inj.mp
  have h2 : n / 2 ^ k ≤ n := Nat.div_le_self _ _
  rw [pk_shr _ _ k hs, nI_toInt h, nI_toInt (by omega), Int.shiftRight_eq_div_pow]
  rfl
end
section
/-! arrays that hold naturals, indices, masks -/
def sr_i (f : Nat → Nat) : Nat → Int32 := fun j => nI (f j)
def sr_u (f : Nat → Nat) (k x : Nat) : Nat → Nat := fun j => if j = k then x else f j
theorem sr_us {f : Nat → Nat} {k x : Nat} : sr_u f k x k = x := if_pos rfl
theorem sr_un {f : Nat → Nat} {k x j : Nat} (h : j ≠ k) : sr_u f k x j = f j := if_neg h
theorem sr_uu {f : Nat → Nat} {k x y : Nat} : sr_u (sr_u f k x) k y = sr_u f k y := by
  funext j; unfold sr_u; split <;> rfl
theorem sr_uur {f : Nat → Int32} {k : Nat} {x y : Int32} : upd (upd f k x) k y = upd f k y := by
  funext j; unfold upd; split <;> rfl
theorem sr_ui {f : Nat → Nat} {k x : Nat} (hk : k < 2 ^ 31) : upd (sr_i f) (nI k).toNatClampNeg (nI x) = sr_i (sr_u f k x) := by
  rw [nI_clamp hk]; funext j; show (if j = k then nI x else nI (f j)) = nI (if j = k then x else f j); split <;> rfl
theorem sr_ur {a : Nat → Int32} {k : Nat} {x : Int32} (hk : k < 2 ^ 31) : upd a (nI k).toNatClampNeg x = upd a k x := by
  rw [nI_clamp hk]
theorem sr_rd {f : Nat → Nat} {k : Nat} (hk : k < 2 ^ 31) : sr_i f (nI k).toNatClampNeg = nI (f k) := by
  rw [nI_clamp hk]; rfl
theorem sr_rr {f : Nat → Int32} {k : Nat} (hk : k < 2 ^ 31) : f (nI k).toNatClampNeg = f k := by
  rw [nI_clamp hk]
theorem sr_128 (s p : Nat) : nI s * 128 + nI p = nI (s * 128 + p) := by
  show nI s * nI 128 + nI p = _; rw [pk_mul, nI_add]
theorem sr_16 (s p : Nat) : nI s * 16 + nI p = nI (s * 16 + p) := by
  show nI s * nI 16 + nI p = _; rw [pk_mul, nI_add]
theorem sr_4 (s p : Nat) : nI s * 4 + nI p = nI (s * 4 + p) := by
  show nI s * nI 4 + nI p = _; rw [pk_mul, nI_add]
theorem sr_k128 {s p : Nat} (hs : s < 2) (hp : p < 128) : (nI s * 128 + nI p).toNatClampNeg = s * 128 + p := by
  rw [sr_128]; exact nI_clamp (by omega)
theorem sr_k16 {s p : Nat} (hs : s < 2) (hp : p < 16) : (nI s * 16 + nI p).toNatClampNeg = s * 16 + p := by
  rw [sr_16]; exact nI_clamp (by omega)
theorem sr_k4 {s p : Nat} (hs : s < 2) (hp : p < 4) : (nI s * 4 + nI p).toNatClampNeg = s * 4 + p := by
  rw [sr_4]; exact nI_clamp (by omega)
theorem sr_n128 {s p : Nat} (hs : s < 2) (hp : p < 128) : vp_in (nI s * 128 + nI p) 256 := by
  rw [sr_128]; exact vp_in_nI (by omega) (by omega)
theorem sr_n16 {s p : Nat} (hs : s < 2) (hp : p < 16) : vp_in (nI s * 16 + nI p) 32 := by
  rw [sr_16]; exact vp_in_nI (by omega) (by omega)
theorem sr_n4 {s p : Nat} (hs : s < 2) (hp : p < 4) : vp_in (nI s * 4 + nI p) 8 := by
  rw [sr_4]; exact vp_in_nI (by omega) (by omega)
theorem sr_n2 {s : Nat} (hs : s < 2) : vp_in (nI s) 2 := vp_in_nI hs (by omega)
theorem sr_n24 {i C : Nat} (hi : i < C) (hC : C ≤ 24) : vp_in (nI i) 24 := vp_in_nI (by omega) (by omega)
theorem sr_u128 {f : Nat → Nat} {s p x : Nat} (hs : s < 2) (hp : p < 128) : upd (sr_i f) (nI s * 128 + nI p).toNatClampNeg (nI x) = sr_i (sr_u f (s * 128 + p) x) := by
  rw [sr_128]; exact sr_ui (by omega)
theorem sr_u16 {f : Nat → Nat} {s p x : Nat} (hs : s < 2) (hp : p < 16) : upd (sr_i f) (nI s * 16 + nI p).toNatClampNeg (nI x) = sr_i (sr_u f (s * 16 + p) x) := by
  rw [sr_16]; exact sr_ui (by omega)
theorem sr_r128 {f : Nat → Nat} {s p : Nat} (hs : s < 2) (hp : p < 128) : sr_i f (nI s * 128 + nI p).toNatClampNeg = nI (f (s * 128 + p)) := by
  rw [sr_k128 hs hp]; rfl
theorem sr_r16 {f : Nat → Nat} {s p : Nat} (hs : s < 2) (hp : p < 16) : sr_i f (nI s * 16 + nI p).toNatClampNeg = nI (f (s * 16 + p)) := by
  rw [sr_k16 hs hp]; rfl
theorem sr_a15 {p : Nat} (hp : p < 2 ^ 31) : nI p &&& 15 = nI (p % 16) := pk_andN (by omega) 4 (by decide)
theorem sr_a3 {p : Nat} (hp : p < 2 ^ 31) : nI p &&& 3 = nI (p % 4) := pk_andN (by omega) 2 (by decide)
theorem sr_d15 {a b : Nat} (ha : a < 2 ^ 30) (hb : b < 2 ^ 30) : (nI a - nI b) &&& 15 = nI ((a + 15 * b) % 16) := by
  rw [pk_and _ 4 (by decide)]
  have e : (nI a - nI b).toBitVec.toNat = (2 ^ 32 - b + a) % 2 ^ 32 := by
    rw [Int32.toBitVec_sub, BitVec.toNat_sub, pk_tn (by omega), pk_tn (by omega)]
  rw [e]
  exact congrArg nI (by omega)
theorem sr_mb : ∀ m, m < 16 → ∀ r, r < 4 → ((nI m &&& ((1 : Int32) <<< (nI r &&& 31))) = 0 ↔ m / 2 ^ r % 2 = 0) := by decide +kernel
theorem sr_mo : ∀ m, m < 16 → ∀ r, r < 4 → m / 2 ^ r % 2 = 0 → (nI m ||| ((1 : Int32) <<< (nI r &&& 31))) = nI (m + 2 ^ r) := by decide +kernel
theorem sr_ms : ∀ m, m < 16 → nI m >>> ((1 : Int32) &&& 31) = nI (m / 2) := by decide +kernel
theorem sr_m1 : ∀ m, m < 16 → ((nI m &&& 1) = 0 ↔ m % 2 = 0) := by decide +kernel
theorem sr_nb1 : vp_nar .boolean 1 = 1 := rfl
theorem sr_nb0 : vp_nar .boolean 0 = 0 := rfl
theorem sr_sc {s : Nat} (hs : s < 2) : s < 2 ^ 31 := by omega
theorem sr_ic {i C : Nat} (hi : i < C) (hC : C ≤ 24) : i < 2 ^ 31 := by omega
/-- one if the position is in the received set -/
def sr_q (gt : Nat → Int32) (s p : Nat) : Nat := if p < 128 ∧ gt (s * 128 + p) ≠ 0 then 1 else 0
theorem sr_q0 {gt : Nat → Int32} {s p : Nat} (h : p < 128 → gt (s * 128 + p) = 0) : sr_q gt s p = 0 :=
  if_neg (fun z => z.2 (h z.1))
theorem sr_q1 {gt : Nat → Int32} {s p : Nat} (h : p < 128) (g : gt (s * 128 + p) ≠ 0) : sr_q gt s p = 1 := if_pos ⟨h, g⟩
theorem sr_qz {gt : Nat → Int32} {s p : Nat} (h : p < 128) (e : sr_q gt s p = 0) : gt (s * 128 + p) = 0 :=
  Decidable.byContradiction fun z => by rw [sr_q1 h z] at e; omega
theorem sr_qn {gt : Nat → Int32} {s p : Nat} (e : sr_q gt s p ≠ 0) : p < 128 ∧ gt (s * 128 + p) ≠ 0 :=
  Decidable.byContradiction fun z => e (if_neg z)
theorem sr_qle (gt : Nat → Int32) (s p : Nat) : sr_q gt s p ≤ 1 := by unfold sr_q; split <;> omega
/-- a free slot: the least one, or none -/
theorem sr_fs (wk : Nat → Int32) : ∀ C : Nat, (∃ i, i < C ∧ wk i = 0 ∧ ∀ j, j < i → wk j ≠ 0) ∨ (∀ j, j < C → wk j ≠ 0) := by
  intro C
  induction C with
  | zero => exact Or.inr (fun j hj => absurd hj (Nat.not_lt_zero j))
  | succ C ih =>
    rcases ih with ⟨i, hi, h⟩ | h
    · exact Or.inl ⟨i, by omega, h⟩
    · by_cases z : wk C = 0
      · exact Or.inl ⟨C, by omega, z, h⟩
      · exact Or.inr (fun j hj => by
          by_cases e : j = C
          · rw [e]; exact z
          · exact h j (by omega))
end
section
/-! the relation: what a station's two pictures and the frames on the wire keep -/
def sr_N (N O A F : Nat → Nat) (s d : Nat) : Prop := O s + A s = N s ∧ O s ≤ 4 ∧ N s ≤ 128 ∧ A s ≤ F d ∧ F d ≤ N s
def sr_T (w : Nat) (N t h : Nat → Nat) (s : Nat) : Prop :=
  (∀ p, p < N s → t (s * 128 + p) ≤ w) ∧ (∀ p, p < N s → N s ≤ p + 16 → h (s * 16 + p % 16) = t (s * 128 + p))
def sr_R (N F M : Nat → Nat) (wd dl ew gt : Nat → Int32) (s d : Nat) : Prop :=
  (∀ p, p < F s → gt (s * 128 + p) ≠ 0) ∧ (∀ p, p < 128 → gt (s * 128 + p) ≠ 0 → p < N d) ∧ (F s < 128 → gt (s * 128 + F s) = 0) ∧
  (∀ p, p < F s → dl (s * 128 + p) = wd (d * 128 + p)) ∧
  (∀ p, F s ≤ p → p < 128 → gt (s * 128 + p) ≠ 0 → ew (s * 4 + p % 4) = wd (d * 128 + p)) ∧
  M s = 2 * sr_q gt s (F s + 1) + 4 * sr_q gt s (F s + 2) + 8 * sr_q gt s (F s + 3)
def sr_G (L C w : Nat) (N O A F M t h : Nat → Nat) (wd dl ew gt : Nat → Int32) : Prop :=
  L ≤ 12 ∧ C ≤ 24 ∧ w ≤ 20000 ∧ ∀ s d, s + d = 1 → sr_N N O A F s d ∧ sr_T w N t h s ∧ sr_R N F M wd dl ew gt s d
/-- a frame from s to d: position n (if it is DATA), whole ack a, age g; four-bit pictures x, y; word z -/
def sr_P (L w : Nat) (N F t : Nat → Nat) (wd : Nat → Int32) (k : Int32) (s d n a g x y : Nat) (z : Int32) : Prop :=
  g ≤ L ∧ y = a % 16 ∧ a ≤ F s ∧ N d ≤ a + 12 ∧ (a < F s → w ≤ t (d * 128 + a) + L + g) ∧
  (k = 1 → x = n % 16 ∧ n < N s ∧ N s ≤ n + 12 ∧ w ≤ t (s * 128 + n) + g ∧ z = wd (s * 128 + n))
def sr_H (L C w : Nat) (N F t : Nat → Nat) (wd wk : Nat → Int32) (fr nn aa ag xn xa : Nat → Nat) (ww : Nat → Int32) : Prop :=
  ∀ i, i < C → wk i ≠ 0 → fr i < 2 ∧ ∀ d, fr i + d = 1 → sr_P L w N F t wd (wk i) (fr i) d (nn i) (aa i) (ag i) (xn i) (xa i) (ww i)
def sr_Q (L : Nat) (T D : Int32) (C w : Nat) (N A F : Nat → Nat) (u : SX) (v : SY) : Prop :=
  ∃ (O : Nat → Nat) (M : Nat → Nat) (t : Nat → Nat) (h : Nat → Nat) (fr : Nat → Nat) (nn : Nat → Nat) (aa : Nat → Nat) (ag : Nat → Nat) (xn : Nat → Nat) (xa : Nat → Nat) (wd : Nat → Int32) (dl : Nat → Int32) (ew : Nat → Int32) (tm : Nat → Int32) (gf : Nat → Int32) (wk : Nat → Int32) (ww : Nat → Int32) (gt : Nat → Int32), u = (nI L, T, D, nI C, nI w, sr_i N, sr_i O, wd, sr_i h, sr_i F, dl, ew, sr_i M, tm, gf, wk, sr_i fr, sr_i xn, sr_i xa, ww, sr_i ag) ∧ v = (nI L, T, D, nI C, nI w, wd, sr_i t, gt, sr_i N, sr_i A, tm, gf, wk, sr_i fr, sr_i nn, sr_i aa, sr_i ag) ∧ sr_G L C w N O A F M t h wd dl ew gt ∧ sr_H L C w N F t wd wk fr nn aa ag xn xa ww
theorem sr_mk {L : Nat} {T : Int32} {D : Int32} {C : Nat} {w : Nat} {N : Nat → Nat} {A : Nat → Nat} {F : Nat → Nat} {O : Nat → Nat} {M : Nat → Nat} {t : Nat → Nat} {h : Nat → Nat} {fr : Nat → Nat} {nn : Nat → Nat} {aa : Nat → Nat} {ag : Nat → Nat} {xn : Nat → Nat} {xa : Nat → Nat} {wd : Nat → Int32} {dl : Nat → Int32} {ew : Nat → Int32} {tm : Nat → Int32} {gf : Nat → Int32} {wk : Nat → Int32} {ww : Nat → Int32} {gt : Nat → Int32} (g : sr_G L C w N O A F M t h wd dl ew gt) (H : sr_H L C w N F t wd wk fr nn aa ag xn xa ww) : sr_Q L T D C w N A F (nI L, T, D, nI C, nI w, sr_i N, sr_i O, wd, sr_i h, sr_i F, dl, ew, sr_i M, tm, gf, wk, sr_i fr, sr_i xn, sr_i xa, ww, sr_i ag) (nI L, T, D, nI C, nI w, wd, sr_i t, gt, sr_i N, sr_i A, tm, gf, wk, sr_i fr, sr_i nn, sr_i aa, sr_i ag) :=
  ⟨O, M, t, h, fr, nn, aa, ag, xn, xa, wd, dl, ew, tm, gf, wk, ww, gt, rfl, rfl, g, H⟩
theorem sr_el {P : SX → SY → Prop} {L : Nat} {T D : Int32} {C w : Nat} {N A F : Nat → Nat} {u : SX} {v : SY} (q : sr_Q L T D C w N A F u v)
    (k : ∀ (O : Nat → Nat) (M : Nat → Nat) (t : Nat → Nat) (h : Nat → Nat) (fr : Nat → Nat) (nn : Nat → Nat) (aa : Nat → Nat) (ag : Nat → Nat) (xn : Nat → Nat) (xa : Nat → Nat) (wd : Nat → Int32) (dl : Nat → Int32) (ew : Nat → Int32) (tm : Nat → Int32) (gf : Nat → Int32) (wk : Nat → Int32) (ww : Nat → Int32) (gt : Nat → Int32), sr_G L C w N O A F M t h wd dl ew gt → sr_H L C w N F t wd wk fr nn aa ag xn xa ww → P (nI L, T, D, nI C, nI w, sr_i N, sr_i O, wd, sr_i h, sr_i F, dl, ew, sr_i M, tm, gf, wk, sr_i fr, sr_i xn, sr_i xa, ww, sr_i ag) (nI L, T, D, nI C, nI w, wd, sr_i t, gt, sr_i N, sr_i A, tm, gf, wk, sr_i fr, sr_i nn, sr_i aa, sr_i ag)) : P u v :=
  Exists.elim q fun O q => Exists.elim q fun M q => Exists.elim q fun t q => Exists.elim q fun h q => Exists.elim q fun fr q =>
  Exists.elim q fun nn q => Exists.elim q fun aa q => Exists.elim q fun ag q => Exists.elim q fun xn q => Exists.elim q fun xa q =>
  Exists.elim q fun wd q => Exists.elim q fun dl q => Exists.elim q fun ew q => Exists.elim q fun tm q => Exists.elim q fun gf q =>
  Exists.elim q fun wk q => Exists.elim q fun ww q => Exists.elim q fun gt q => by
    rw [q.1, q.2.1]; exact k O M t h fr nn aa ag xn xa wd dl ew tm gf wk ww gt q.2.2.1 q.2.2.2
section
variable {L : Nat} {T : Int32} {D : Int32} {C : Nat} {w : Nat} {N : Nat → Nat} {A : Nat → Nat} {F : Nat → Nat} {O : Nat → Nat} {M : Nat → Nat} {t : Nat → Nat} {h : Nat → Nat} {fr : Nat → Nat} {nn : Nat → Nat} {aa : Nat → Nat} {ag : Nat → Nat} {xn : Nat → Nat} {xa : Nat → Nat} {wd : Nat → Int32} {dl : Nat → Int32} {ew : Nat → Int32} {tm : Nat → Int32} {gf : Nat → Int32} {wk : Nat → Int32} {ww : Nat → Int32} {gt : Nat → Int32}
/-- frames know the times from below alone -/
theorem sr_Ht {t' : Nat → Nat} (ht : ∀ q, t' q = t q ∨ t' q = w) (H : sr_H L C w N F t wd wk fr nn aa ag xn xa ww) : sr_H L C w N F t' wd wk fr nn aa ag xn xa ww := by
  intro i hi hk
  refine ⟨(H i hi hk).1, fun d e => ?_⟩
  obtain ⟨h1, h2, h3, h4, h5, h6⟩ := (H i hi hk).2 d e
  refine ⟨h1, h2, h3, h4, fun z => ?_, fun z => ?_⟩
  · have := h5 z
    rcases ht (d * 128 + aa i) with e | e <;> omega
  · obtain ⟨k1, k2, k3, k4, k5⟩ := h6 z
    refine ⟨k1, k2, k3, ?_, k5⟩
    rcases ht (fr i * 128 + nn i) with e | e <;> omega
theorem sr_Hnew {i s n a g x y : Nat} {k z : Int32} (hs : s < 2) (hP : ∀ d, s + d = 1 → sr_P L w N F t wd k s d n a g x y z) (H : sr_H L C w N F t wd wk fr nn aa ag xn xa ww) :
    sr_H L C w N F t wd (upd wk i k) (sr_u fr i s) (sr_u nn i n) (sr_u aa i a) (sr_u ag i g) (sr_u xn i x) (sr_u xa i y) (upd ww i z) := by
  intro j hj hk
  by_cases e : j = i
  · subst e
    rw [pk_us, sr_us, sr_us, sr_us, sr_us, sr_us, sr_us, pk_us]
    exact ⟨hs, hP⟩
  · rw [pk_un e] at hk
    rw [pk_un e, sr_un e, sr_un e, sr_un e, sr_un e, sr_un e, sr_un e, pk_un e]
    exact H j hj hk
theorem sr_Hoff {i : Nat} (H : sr_H L C w N F t wd wk fr nn aa ag xn xa ww) : sr_H L C w N F t wd (upd wk i 0) fr nn aa ag xn xa ww := by
  intro j hj hk
  by_cases e : j = i
  · subst e; rw [pk_us] at hk; exact absurd rfl hk
  · rw [pk_un e] at hk ⊢
    exact H j hj hk
/-- the slot i gets a copy of the frame in slot j -/
theorem sr_Hdup {i j : Nat} (hj : j < C) (hk : wk j ≠ 0) (H : sr_H L C w N F t wd wk fr nn aa ag xn xa ww) :
    sr_H L C w N F t wd (upd wk i (wk j)) (sr_u fr i (fr j)) (sr_u nn i (nn j)) (sr_u aa i (aa j)) (sr_u ag i (ag j)) (sr_u xn i (xn j)) (sr_u xa i (xa j)) (upd ww i (ww j)) :=
  sr_Hnew (H j hj hk).1 (H j hj hk).2 H
/-- station s hands its position p -/
theorem sr_Ghand {s p : Nat} (hs : s < 2) (hp : A s ≤ p) (hp2 : p < N s) (g : sr_G L C w N O A F M t h wd dl ew gt) : sr_G L C w N O A F M (sr_u t (s * 128 + p) w) (sr_u h (s * 16 + p % 16) w) wd dl ew gt := by
  obtain ⟨g1, g2, g3, g4⟩ := g
  refine ⟨g1, g2, g3, fun a b e => ?_⟩
  obtain ⟨n, ⟨t1, t2⟩, r⟩ := g4 a b e
  obtain ⟨⟨m1, m2, m3, m4, m5⟩, -, -⟩ := g4 s (1 - s) (by omega)
  obtain ⟨n1, n2, n3, n4, n5⟩ := n
  refine ⟨⟨n1, n2, n3, n4, n5⟩, ⟨fun q hq => ?_, fun q hq hq2 => ?_⟩, r⟩
  · have := t1 q hq
    unfold sr_u; split <;> omega
  · have := t2 q hq hq2
    by_cases es : a = s
    · subst es
      by_cases ep : q = p
      · subst ep; rw [sr_us, sr_us]
      · rw [sr_un (by omega), sr_un (by omega)]; exact this
    · rw [sr_un (by omega), sr_un (by omega)]; exact this
theorem sr_tu {q0 : Nat} : ∀ q, sr_u t q0 w q = t q ∨ sr_u t q0 w q = w := by
  intro q; unfold sr_u; split
  · exact Or.inr rfl
  · exact Or.inl rfl
/-- the numbers of a station and its peer -/
theorem sr_Gn {s d : Nat} (e : s + d = 1) (g : sr_G L C w N O A F M t h wd dl ew gt) : (O s + A s = N s ∧ O s ≤ 4 ∧ N s ≤ 128 ∧ A s ≤ F d ∧ F d ≤ N s) ∧ (O d + A d = N d ∧ O d ≤ 4 ∧ N d ≤ 128 ∧ A d ≤ F s ∧ F s ≤ N d) :=
  ⟨(g.2.2.2 s d e).1, (g.2.2.2 d s (by omega)).1⟩
/-- a new frame without a word -/
theorem sr_Pack {s : Nat} {k z : Int32} {n x : Nat} (hk : k ≠ 1) (g : sr_G L C w N O A F M t h wd dl ew gt) : ∀ d, s + d = 1 → sr_P L w N F t wd k s d n (F s) 0 x (F s % 16) z := by
  intro d e
  obtain ⟨⟨a1, a2, a3, a4, a5⟩, b1, b2, b3, b4, b5⟩ := sr_Gn e g
  exact ⟨by omega, rfl, by omega, by omega, fun z => absurd z (by omega), fun z => absurd z hk⟩
/-- a new frame with the word at p, which is handed now -/
theorem sr_Pdata {s p : Nat} {h' : Nat → Nat} (hp : A s ≤ p) (hp2 : p < N s) (ht : t (s * 128 + p) = w) (g : sr_G L C w N O A F M t h' wd dl ew gt) : ∀ d, s + d = 1 → sr_P L w N F t wd 1 s d p (F s) 0 (p % 16) (F s % 16) (wd (s * 128 + p)) := by
  intro d e
  obtain ⟨⟨a1, a2, a3, a4, a5⟩, b1, b2, b3, b4, b5⟩ := sr_Gn e g
  exact ⟨by omega, rfl, by omega, by omega, fun z => absurd z (by omega), fun _ => ⟨rfl, hp2, by omega, by omega, rfl⟩⟩
/-- a word is accepted and handed -/
theorem sr_Gsend {s : Nat} {x : Int32} (hs : s < 2) (hN : N s < 128) (hO : O s < 4) (g : sr_G L C w N O A F M t h wd dl ew gt) :
    sr_G L C w (sr_u N s (N s + 1)) (sr_u O s (O s + 1)) A F M (sr_u t (s * 128 + N s) w) (sr_u h (s * 16 + N s % 16) w) (upd wd (s * 128 + N s) x) dl ew gt := by
  obtain ⟨g1, g2, g3, g4⟩ := g
  refine ⟨g1, g2, g3, fun a b e => ?_⟩
  obtain ⟨⟨n1, n2, n3, n4, n5⟩, ⟨t1, t2⟩, r1, r2, r3, r4, r5, r6⟩ := g4 a b e
  obtain ⟨⟨m1, m2, m3, m4, m5⟩, -, -⟩ := g4 b a (by omega)
  by_cases es : a = s
  · subst es
    have eb : b ≠ a := by omega
    refine ⟨⟨?_, ?_, ?_, n4, ?_⟩, ⟨fun q hq => ?_, fun q hq hq2 => ?_⟩, r1, ?_, r3, ?_, ?_, r6⟩
    · rw [sr_us, sr_us]; omega
    · rw [sr_us]; omega
    · rw [sr_us]; omega
    · rw [sr_us]; omega
    · rw [sr_us] at hq
      by_cases ep : q = N a
      · subst ep; rw [sr_us]; omega
      · rw [sr_un (by omega)]; exact t1 q (by omega)
    · rw [sr_us] at hq hq2
      by_cases ep : q = N a
      · subst ep; rw [sr_us, sr_us]
      · rw [sr_un (by omega), sr_un (by omega)]; exact t2 q (by omega) (by omega)
    · rw [sr_un eb]; exact r2
    · intro q hq; rw [pk_un (by omega)]; exact r4 q hq
    · intro q hq h1 h2; rw [pk_un (by omega)]; exact r5 q hq h1 h2
  · have eb : b = s := by omega
    subst eb
    refine ⟨⟨?_, ?_, ?_, n4, ?_⟩, ⟨fun q hq => ?_, fun q hq hq2 => ?_⟩, r1, ?_, r3, ?_, ?_, r6⟩
    · rw [sr_un es, sr_un es]; omega
    · rw [sr_un es]; omega
    · rw [sr_un es]; omega
    · rw [sr_un es]; omega
    · rw [sr_un es] at hq
      rw [sr_un (by omega)]; exact t1 q (by omega)
    · rw [sr_un es] at hq hq2
      rw [sr_un (by omega), sr_un (by omega)]; exact t2 q (by omega) (by omega)
    · intro q hq h1; rw [sr_us]; have := r2 q hq h1; omega
    · intro q hq; rw [pk_un (by omega)]; exact r4 q hq
    · intro q hq h1 h2; have := r2 q h1 h2; rw [pk_un (by omega)]; exact r5 q hq h1 h2
theorem sr_Hsend {s : Nat} {x : Int32} (hs : s < 2) (hN : N s < 128) (hold : 12 ≤ N s → t (s * 128 + (N s - 12)) + 2 * L < w) (g : sr_G L C w N O A F M t h wd dl ew gt) (H : sr_H L C w N F t wd wk fr nn aa ag xn xa ww) :
    sr_H L C w (sr_u N s (N s + 1)) F (sr_u t (s * 128 + N s) w) (upd wd (s * 128 + N s) x) wk fr nn aa ag xn xa ww := by
  refine sr_Ht (t := t) sr_tu ?_
  intro i hi hk
  refine ⟨(H i hi hk).1, fun d e => ?_⟩
  obtain ⟨h1, h2, h3, h4, h5, h6⟩ := (H i hi hk).2 d e
  have hf := (H i hi hk).1
  generalize fr i = f at *
  obtain ⟨⟨a1, a2, a3, a4, a5⟩, b1, b2, b3, b4, b5⟩ := sr_Gn e g
  refine ⟨h1, h2, h3, ?_, h5, fun z => ?_⟩
  · by_cases ed : d = s
    · subst ed; rw [sr_us]
      refine Nat.lt_of_le_of_ne h4 (fun z => ?_)
      have h12 := hold (by omega)
      have ea : N d - 12 = aa i := by omega
      rw [ea] at h12
      by_cases za : aa i < F f
      · have := h5 za; omega
      · omega
    · rw [sr_un ed]; exact h4
  · obtain ⟨k1, k2, k3, k4, k5⟩ := h6 z
    by_cases ed : f = s
    · subst ed; rw [sr_us, pk_un (by omega)]
      refine ⟨k1, by omega, ?_, k4, k5⟩
      refine Nat.lt_of_le_of_ne k3 (fun z => ?_)
      have h12 := hold (by omega)
      have ea : N f - 12 = nn i := by omega
      rw [ea] at h12
      omega
    · rw [sr_un ed, pk_un (by omega)]; exact ⟨k1, k2, k3, k4, k5⟩
/-- an ack is taken -/
theorem sr_Gack {s d a : Nat} (e : s + d = 1) (h1 : A d ≤ a) (h2 : a ≤ F s) (g : sr_G L C w N O A F M t h wd dl ew gt) : sr_G L C w N (sr_u O d (N d - a)) (sr_u A d a) F M t h wd dl ew gt := by
  obtain ⟨g1, g2, g3, g4⟩ := g
  refine ⟨g1, g2, g3, fun x y exy => ?_⟩
  obtain ⟨⟨n1, n2, n3, n4, n5⟩, tt, rr⟩ := g4 x y exy
  by_cases ed : x = d
  · subst ed
    have ey : y = s := by omega
    subst ey
    refine ⟨⟨?_, ?_, n3, ?_, n5⟩, tt, rr⟩
    · rw [sr_us, sr_us]; omega
    · rw [sr_us]; omega
    · rw [sr_us]; omega
  · refine ⟨⟨?_, ?_, n3, ?_, n5⟩, tt, rr⟩
    · rw [sr_un ed, sr_un ed]; omega
    · rw [sr_un ed]; omega
    · rw [sr_un ed]; omega
/-- an early word is stored -/
theorem sr_Gearly {s d n : Nat} (e : s + d = 1) (h1 : F d < n) (h2 : n < N s) (h3 : gt (d * 128 + n) = 0) (g : sr_G L C w N O A F M t h wd dl ew gt) :
    sr_G L C w N O A F (sr_u M d (M d + 2 ^ (n - F d))) t h wd dl (upd ew (d * 4 + n % 4) (wd (s * 128 + n))) (upd gt (d * 128 + n) 1) := by
  obtain ⟨⟨a1, a2, a3, a4, a5⟩, b1, b2, b3, b4, b5⟩ := sr_Gn e g
  obtain ⟨g1, g2, g3, g4⟩ := g
  refine ⟨g1, g2, g3, fun x y exy => ?_⟩
  obtain ⟨nu, tt, r1, r2, r3, r4, r5, r6⟩ := g4 x y exy
  have one : (1 : Int32) ≠ 0 := by decide
  refine ⟨nu, tt, ?_⟩
  by_cases ed : x = d
  · subst ed
    have ey : y = s := by omega
    subst ey
    refine ⟨fun q hq => ?_, fun q hq hg => ?_, fun hq => ?_, r4, fun q h4 h5 hg => ?_, ?_⟩
    · rw [pk_un (by omega)]; exact r1 q hq
    · by_cases eq : q = n
      · omega
      · rw [pk_un (by omega)] at hg; exact r2 q hq hg
    · rw [pk_un (by omega)]; exact r3 hq
    · by_cases eq : q = n
      · subst eq; rw [pk_us]
      · rw [pk_un (by omega)] at hg
        have := r2 q h5 hg
        rw [pk_un (by omega)]; exact r5 q h4 h5 hg
    · rw [sr_us, r6]
      have hq : ∀ p, p ≠ n → sr_q (upd gt (x * 128 + n) 1) x p = sr_q gt x p := by
        intro p hp; unfold sr_q; rw [pk_un (by omega)]
      have hn1 : sr_q (upd gt (x * 128 + n) 1) x n = 1 := sr_q1 (by omega) (by rw [pk_us]; exact one)
      have hn0 : sr_q gt x n = 0 := sr_q0 (fun _ => h3)
      have hc : n = F x + 1 ∨ n = F x + 2 ∨ n = F x + 3 := by omega
      rcases hc with rfl | rfl | rfl
      · rw [hq (F x + 2) (by omega), hq (F x + 3) (by omega), hn1, hn0, show F x + 1 - F x = 1 by omega]; omega
      · rw [hq (F x + 1) (by omega), hq (F x + 3) (by omega), hn1, hn0, show F x + 2 - F x = 2 by omega]; omega
      · rw [hq (F x + 1) (by omega), hq (F x + 2) (by omega), hn1, hn0, show F x + 3 - F x = 3 by omega]
  · have hd : ∀ p, p < 128 → upd gt (d * 128 + n) 1 (x * 128 + p) = gt (x * 128 + p) := fun p hp => pk_un (by omega)
    have hq : ∀ p, sr_q (upd gt (d * 128 + n) 1) x p = sr_q gt x p := by
      intro p; unfold sr_q
      by_cases hp : p < 128
      · rw [hd p hp]
      · rw [if_neg (fun z => hp z.1), if_neg (fun z => hp z.1)]
    have hF : F x ≤ 128 := by
      have : x = s := by omega
      subst this; omega
    refine ⟨fun q hq => ?_, fun q hq hg => ?_, fun hq => ?_, r4, fun q h4 h5 hg => ?_, ?_⟩
    · rw [hd q (by omega)]; exact r1 q hq
    · rw [hd q hq] at hg; exact r2 q hq hg
    · rw [hd _ hq]; exact r3 hq
    · rw [hd q h5] at hg; rw [pk_un (by omega)]; exact r5 q h4 h5 hg
    · rw [sr_un ed, hq, hq, hq]; exact r6
end
end
section
/-! laws of a tick and of words passed on -/
def sr_ak (L : Nat) (wk : Nat → Int32) (ag : Nat → Nat) (j : Nat) : Nat → Int32 := fun i => if i < j ∧ wk i ≠ 0 ∧ L < ag i + 1 then 0 else wk i
def sr_aa (wk : Nat → Int32) (ag : Nat → Nat) (j : Nat) : Nat → Nat := fun i => if i < j ∧ wk i ≠ 0 then ag i + 1 else ag i
theorem sr_ak0 {L : Nat} {wk : Nat → Int32} {ag : Nat → Nat} : sr_ak L wk ag 0 = wk := by
  funext i; exact if_neg (fun z => absurd z.1 (Nat.not_lt_zero i))
theorem sr_aa0 {wk : Nat → Int32} {ag : Nat → Nat} : sr_aa wk ag 0 = ag := by
  funext i; exact if_neg (fun z => absurd z.1 (Nat.not_lt_zero i))
theorem sr_akj {L : Nat} {wk : Nat → Int32} {ag : Nat → Nat} {j : Nat} : sr_ak L wk ag j j = wk j := if_neg (fun z => absurd z.1 (Nat.lt_irrefl j))
theorem sr_aaj {wk : Nat → Int32} {ag : Nat → Nat} {j : Nat} : sr_aa wk ag j j = ag j := if_neg (fun z => absurd z.1 (Nat.lt_irrefl j))
theorem sr_lts {i j : Nat} (h : i ≠ j) : i < j + 1 ↔ i < j := by omega
theorem sr_ak_keep {L : Nat} {wk : Nat → Int32} {ag : Nat → Nat} {j : Nat} (h : wk j = 0 ∨ ag j + 1 ≤ L) : sr_ak L wk ag j = sr_ak L wk ag (j + 1) := by
  funext i
  by_cases e : i = j
  · subst e
    rw [sr_akj]
    refine (if_neg (fun z => ?_)).symm
    rcases h with h | h
    · exact z.2.1 h
    · omega
  · unfold sr_ak; simp only [sr_lts e]
theorem sr_ak_off {L : Nat} {wk : Nat → Int32} {ag : Nat → Nat} {j : Nat} (h : wk j ≠ 0) (h2 : L < ag j + 1) : upd (sr_ak L wk ag j) j 0 = sr_ak L wk ag (j + 1) := by
  funext i
  by_cases e : i = j
  · subst e
    rw [pk_us]
    exact (if_pos ⟨by omega, h, h2⟩).symm
  · rw [pk_un e]; unfold sr_ak; simp only [sr_lts e]
theorem sr_aa_keep {wk : Nat → Int32} {ag : Nat → Nat} {j : Nat} (h : wk j = 0) : sr_aa wk ag j = sr_aa wk ag (j + 1) := by
  funext i
  by_cases e : i = j
  · subst e
    rw [sr_aaj]
    exact (if_neg (fun z => z.2 h)).symm
  · unfold sr_aa; simp only [sr_lts e]
theorem sr_aa_up {wk : Nat → Int32} {ag : Nat → Nat} {j : Nat} (h : wk j ≠ 0) : sr_u (sr_aa wk ag j) j (ag j + 1) = sr_aa wk ag (j + 1) := by
  funext i
  by_cases e : i = j
  · subst e
    rw [sr_us]
    exact (if_pos ⟨by omega, h⟩).symm
  · rw [sr_un e]; unfold sr_aa; simp only [sr_lts e]
section
variable {L : Nat} {T : Int32} {D : Int32} {C : Nat} {w : Nat} {N : Nat → Nat} {A : Nat → Nat} {F : Nat → Nat} {O : Nat → Nat} {M : Nat → Nat} {t : Nat → Nat} {h : Nat → Nat} {fr : Nat → Nat} {nn : Nat → Nat} {aa : Nat → Nat} {ag : Nat → Nat} {xn : Nat → Nat} {xa : Nat → Nat} {wd : Nat → Int32} {dl : Nat → Int32} {ew : Nat → Int32} {tm : Nat → Int32} {gf : Nat → Int32} {wk : Nat → Int32} {ww : Nat → Int32} {gt : Nat → Int32}
theorem sr_Gtick (hw : w < 20000) (g : sr_G L C w N O A F M t h wd dl ew gt) : sr_G L C (w + 1) N O A F M t h wd dl ew gt := by
  obtain ⟨g1, g2, g3, g4⟩ := g
  refine ⟨g1, g2, hw, fun a b e => ?_⟩
  obtain ⟨n, ⟨t1, t2⟩, r⟩ := g4 a b e
  exact ⟨n, ⟨fun q hq => Nat.le_succ_of_le (t1 q hq), t2⟩, r⟩
theorem sr_Htick (H : sr_H L C w N F t wd wk fr nn aa ag xn xa ww) : sr_H L C (w + 1) N F t wd (sr_ak L wk ag C) fr nn aa (sr_aa wk ag C) xn xa ww := by
  intro i hi hk
  have hw : wk i ≠ 0 := fun z => hk (by unfold sr_ak; split <;> first | rfl | exact z)
  have hl : ¬ (L < ag i + 1) := fun z => hk (if_pos ⟨hi, hw, z⟩)
  have e1 : sr_ak L wk ag C i = wk i := if_neg (fun z => hl z.2.2)
  have e2 : sr_aa wk ag C i = ag i + 1 := if_pos ⟨hi, hw⟩
  rw [e1, e2]
  refine ⟨(H i hi hw).1, fun d e => ?_⟩
  obtain ⟨h1, h2, h3, h4, h5, h6⟩ := (H i hi hw).2 d e
  refine ⟨by omega, h2, h3, h4, fun z => ?_, fun z => ?_⟩
  · have := h5 z; omega
  · obtain ⟨k1, k2, k3, k4, k5⟩ := h6 z
    exact ⟨k1, k2, k3, by omega, k5⟩
end
/-- what the passing on keeps, at the receiver d, whose peer is s -/
def sr_B (N F M : Nat → Nat) (wd dl ew gt : Nat → Int32) (s d : Nat) : Prop :=
  F d ≤ N s ∧ (∀ p, p < F d → gt (d * 128 + p) ≠ 0) ∧ (∀ p, p < F d → dl (d * 128 + p) = wd (s * 128 + p)) ∧
  (∀ p, F d ≤ p → p < 128 → gt (d * 128 + p) ≠ 0 → ew (d * 4 + p % 4) = wd (s * 128 + p)) ∧
  M d = sr_q gt d (F d) + 2 * sr_q gt d (F d + 1) + 4 * sr_q gt d (F d + 2) + 8 * sr_q gt d (F d + 3)
theorem sr_Bm {N F M : Nat → Nat} {wd dl ew gt : Nat → Int32} {s d : Nat} (b : sr_B N F M wd dl ew gt s d) : M d < 16 ∧ M d % 2 = sr_q gt d (F d) := by
  have := b.2.2.2.2
  have h0 := sr_qle gt d (F d)
  have h1 := sr_qle gt d (F d + 1)
  have h2 := sr_qle gt d (F d + 2)
  have h3 := sr_qle gt d (F d + 3)
  omega
theorem sr_Bstep {N F M : Nat → Nat} {wd dl ew gt : Nat → Int32} {s d : Nat} (hd : d < 2) (hgt : ∀ p, p < 128 → gt (d * 128 + p) ≠ 0 → p < N s) (h4 : N s ≤ F d + 4)
    (b : sr_B N F M wd dl ew gt s d) (h1 : F d < 128) (hg : gt (d * 128 + F d) ≠ 0) :
    sr_B N (sr_u F d (F d + 1)) (sr_u M d (M d / 2)) wd (upd dl (d * 128 + F d) (ew (d * 4 + F d % 4))) ew gt s d := by
  obtain ⟨b1, b2, b3, b4, b5⟩ := b
  have hn := hgt (F d) h1 hg
  refine ⟨?_, fun p hp => ?_, fun p hp => ?_, fun p hp hp2 hp3 => ?_, ?_⟩
  · rw [sr_us]; omega
  · rw [sr_us] at hp
    by_cases e : p = F d
    · rw [e]; exact hg
    · exact b2 p (by omega)
  · rw [sr_us] at hp
    by_cases e : p = F d
    · rw [e, pk_us]; exact b4 (F d) (Nat.le_refl _) h1 hg
    · rw [pk_un (by omega)]; exact b3 p (by omega)
  · rw [sr_us] at hp
    exact b4 p (by omega) hp2 hp3
  · rw [sr_us, sr_us, b5]
    have e0 := sr_q1 h1 hg
    have e4 : sr_q gt d (F d + 1 + 3) = 0 := by
      refine sr_q0 (fun hz => Decidable.byContradiction fun z => ?_)
      have := hgt _ hz z
      omega
    have e1 := sr_qle gt d (F d + 1)
    have e2 := sr_qle gt d (F d + 2)
    have e3 := sr_qle gt d (F d + 3)
    rw [e0, e4, show F d + 1 + 1 = F d + 2 from rfl, show F d + 1 + 2 = F d + 3 from rfl]
    omega
section
variable {L : Nat} {T : Int32} {D : Int32} {C : Nat} {w : Nat} {N : Nat → Nat} {A : Nat → Nat} {F : Nat → Nat} {O : Nat → Nat} {M : Nat → Nat} {t : Nat → Nat} {h : Nat → Nat} {fr : Nat → Nat} {nn : Nat → Nat} {aa : Nat → Nat} {ag : Nat → Nat} {xn : Nat → Nat} {xa : Nat → Nat} {wd : Nat → Int32} {dl : Nat → Int32} {ew : Nat → Int32} {tm : Nat → Int32} {gf : Nat → Int32} {wk : Nat → Int32} {ww : Nat → Int32} {gt : Nat → Int32}
theorem sr_B0 {s d : Nat} (e : s + d = 1) (h2 : F d < N s) (g : sr_G L C w N O A F M t h wd dl ew gt) :
    sr_B N F (sr_u M d (M d + 2 ^ 0)) wd dl (upd ew (d * 4 + F d % 4) (wd (s * 128 + F d))) (upd gt (d * 128 + F d) 1) s d := by
  obtain ⟨⟨a1, a2, a3, a4, a5⟩, b1, b2, b3, b4, b5⟩ := sr_Gn e g
  obtain ⟨g1, g2, g3, g4⟩ := g
  obtain ⟨nu, tt, r1, r2, r3, r4, r5, r6⟩ := g4 d s (by omega)
  have one : (1 : Int32) ≠ 0 := by decide
  refine ⟨by omega, fun p hp => ?_, r4, fun p hp hp2 hp3 => ?_, ?_⟩
  · rw [pk_un (by omega)]; exact r1 p hp
  · by_cases ep : p = F d
    · rw [ep, pk_us]
    · rw [pk_un (by omega)] at hp3
      have := r2 p hp2 hp3
      rw [pk_un (by omega)]; exact r5 p hp hp2 hp3
  · have hq : ∀ p, p ≠ F d → sr_q (upd gt (d * 128 + F d) 1) d p = sr_q gt d p := by
      intro p hp; unfold sr_q; rw [pk_un (by omega)]
    have hn1 : sr_q (upd gt (d * 128 + F d) 1) d (F d) = 1 := sr_q1 (by omega) (by rw [pk_us]; exact one)
    rw [sr_us, r6, hq (F d + 1) (by omega), hq (F d + 2) (by omega), hq (F d + 3) (by omega), hn1]
    omega
theorem sr_gt1 {s d : Nat} (e : s + d = 1) (h2 : F d < N s) (g : sr_G L C w N O A F M t h wd dl ew gt) : ∀ p, p < 128 → upd gt (d * 128 + F d) 1 (d * 128 + p) ≠ 0 → p < N s := by
  obtain ⟨g1, g2, g3, g4⟩ := g
  obtain ⟨nu, tt, r1, r2, r3, r4, r5, r6⟩ := g4 d s (by omega)
  intro p hp hg
  by_cases ep : p = F d
  · omega
  · rw [pk_un (by omega)] at hg; exact r2 p hp hg
theorem sr_Gpass {s d : Nat} {F' M' : Nat → Nat} {dl' : Nat → Int32} (e : s + d = 1) (h2 : F d < N s) (g : sr_G L C w N O A F M t h wd dl ew gt)
    (hF : ∀ j, j ≠ d → F' j = F j) (hM : ∀ j, j ≠ d → M' j = M j) (hD : ∀ p, p < 128 → dl' (s * 128 + p) = dl (s * 128 + p)) (hl : F d ≤ F' d)
    (b : sr_B N F' M' wd dl' (upd ew (d * 4 + F d % 4) (wd (s * 128 + F d))) (upd gt (d * 128 + F d) 1) s d) (hz : sr_q (upd gt (d * 128 + F d) 1) d (F' d) = 0) :
    sr_G L C w N O A F' M' t h wd dl' (upd ew (d * 4 + F d % 4) (wd (s * 128 + F d))) (upd gt (d * 128 + F d) 1) := by
  have hg1 := sr_gt1 e h2 g
  obtain ⟨⟨a1, a2, a3, a4, a5⟩, b1, b2, b3, b4, b5⟩ := sr_Gn e g
  obtain ⟨g1, g2, g3, g4⟩ := g
  obtain ⟨c1, c2, c3, c4, c5⟩ := b
  refine ⟨g1, g2, g3, fun x y exy => ?_⟩
  obtain ⟨⟨n1, n2, n3, n4, n5⟩, tt, r1, r2, r3, r4, r5, r6⟩ := g4 x y exy
  by_cases ed : x = d
  · subst ed
    have ey : y = s := by omega
    subst ey
    have es : y ≠ x := by omega
    refine ⟨⟨n1, n2, n3, ?_, ?_⟩, tt, c2, hg1, fun hq => sr_qz hq hz, c3, c4, ?_⟩
    · rw [hF y es]; exact n4
    · rw [hF y es]; exact n5
    · rw [c5, hz]; omega
  · have ex : x = s := by omega
    subst ex
    have ey : y = d := by omega
    subst ey
    have hd : ∀ p, p < 128 → upd gt (y * 128 + F y) 1 (x * 128 + p) = gt (x * 128 + p) := fun p hp => pk_un (by omega)
    have hq : ∀ p, sr_q (upd gt (y * 128 + F y) 1) x p = sr_q gt x p := by
      intro p; unfold sr_q
      by_cases hp : p < 128
      · rw [hd p hp]
      · rw [if_neg (fun z => hp z.1), if_neg (fun z => hp z.1)]
    have hFx := hF x ed
    refine ⟨⟨n1, n2, n3, by omega, c1⟩, tt, fun q hq => ?_, fun q hq hg => ?_, fun hq => ?_, fun q hq => ?_, fun q h4 h5 hg => ?_, ?_⟩
    · rw [hFx] at hq; rw [hd q (by omega)]; exact r1 q hq
    · rw [hd q hq] at hg; exact r2 q hq hg
    · rw [hFx] at hq ⊢; rw [hd _ hq]; exact r3 hq
    · rw [hFx] at hq; rw [hD q (by omega)]; exact r4 q hq
    · rw [hFx] at h4; rw [hd q h5] at hg; rw [pk_un (by omega)]; exact r5 q h4 h5 hg
    · rw [hFx, hM x ed, hq, hq, hq]; exact r6
theorem sr_Hpass {s d : Nat} {F' : Nat → Nat} (e : s + d = 1) (hw : w ≤ t (s * 128 + F d) + L)
    (hF : ∀ j, j ≠ d → F' j = F j) (hl : F d ≤ F' d) (H : sr_H L C w N F t wd wk fr nn aa ag xn xa ww) : sr_H L C w N F' t wd wk fr nn aa ag xn xa ww := by
  intro i hi hk
  refine ⟨(H i hi hk).1, fun y ey => ?_⟩
  obtain ⟨h1, h2, h3, h4, h5, h6⟩ := (H i hi hk).2 y ey
  by_cases ed : fr i = d
  · have ys : y = s := by omega
    refine ⟨h1, h2, ?_, h4, fun z => ?_, h6⟩
    · rw [ed] at h3 ⊢; omega
    · rw [ed] at h3 h5 z
      by_cases za : aa i < F d
      · exact h5 za
      · have ea : aa i = F d := by omega
        rw [ea, ys]; omega
  · exact ⟨h1, h2, by rw [hF _ ed]; exact h3, h4, fun z => h5 (by rw [hF _ ed] at z; exact z), h6⟩
end
end
section
/-! the component's small methods, each over the abstract state -/
theorem sr_pe {P : Int32 → Prop} {x y : Int32} (e : x = y) (h : P y) : P x := by rw [e]; exact h
theorem sr_x4 {post : Int32 → Prop} {u : SX} {x y : Int32} (e : x &&& 15 = y) (h : post y) : wpX_fourBits post u x := by
  obtain ⟨a1, a2, a3, a4, a5, a6, a7, a8, a9, a10, a11, a12, a13, a14, a15, a16, a17, a18, a19, a20, a21⟩ := u
  exact sr_pe (P := post) e h
def sr_st (tm : Nat → Int32) (s : Nat) (D : Int32) : Nat → Int32 := if tm s = 0 then upd tm s D else tm
theorem sr_st0 {tm : Nat → Int32} {s : Nat} {D : Int32} (h : tm s = 0) : sr_st tm s D = upd tm s D := if_pos h
theorem sr_st1 {tm : Nat → Int32} {s : Nat} {D : Int32} (h : ¬ tm s = 0) : sr_st tm s D = tm := if_neg h
section
variable {L : Nat} {T : Int32} {D : Int32} {C : Nat} {w : Nat} {N : Nat → Nat} {A : Nat → Nat} {F : Nat → Nat} {O : Nat → Nat} {M : Nat → Nat} {t : Nat → Nat} {h : Nat → Nat} {fr : Nat → Nat} {nn : Nat → Nat} {aa : Nat → Nat} {ag : Nat → Nat} {xn : Nat → Nat} {xa : Nat → Nat} {wd : Nat → Int32} {dl : Nat → Int32} {ew : Nat → Int32} {tm : Nat → Int32} {gf : Nat → Int32} {wk : Nat → Int32} {ww : Nat → Int32} {gt : Nat → Int32}
theorem sr_xf1 {post : Int32 → Prop} {i : Nat} (hC : C ≤ 24) (hi : i < C) (h0 : wk i = 0) (hl : ∀ j, j < i → wk j ≠ 0) (hp : post (nI i)) :
    ∀ m j, j + m = i → wX_freeSlot_2 post (nI L) T D (nI C) (nI w) (sr_i N) (sr_i O) wd (sr_i h) (sr_i F) dl ew (sr_i M) tm gf wk (sr_i fr) (sr_i xn) (sr_i xa) ww (sr_i ag) (m + 1) (nI j) := by
  intro m
  induction m with
  | zero =>
    intro j hj
    have e : j = i := by omega
    subst e
    exact br_f (nI_ge hi (by omega)) ⟨sr_n24 hi hC, br_t (by rw [nI_clamp (by omega)]; exact h0) hp⟩
  | succ m ih =>
    intro j hj
    exact br_f (nI_ge (by omega) (by omega)) ⟨sr_n24 (C := C) (by omega) hC, br_f (by rw [nI_clamp (by omega)]; exact hl j (by omega)) (nm_r (nI_1 j) (ih (j + 1) (by omega)))⟩
theorem sr_xfree1 {post : Int32 → Prop} {i : Nat} (hC : C ≤ 24) (hi : i < C) (h0 : wk i = 0) (hl : ∀ j, j < i → wk j ≠ 0) (hp : post (nI i)) : wpX_freeSlot post (nI L, T, D, nI C, nI w, sr_i N, sr_i O, wd, sr_i h, sr_i F, dl, ew, sr_i M, tm, gf, wk, sr_i fr, sr_i xn, sr_i xa, ww, sr_i ag) :=
  ⟨i + 1, sr_xf1 hC hi h0 hl hp i 0 (by omega)⟩
theorem sr_xf0 {post : Int32 → Prop} (hC : C ≤ 24) (hl : ∀ j, j < C → wk j ≠ 0) (hp : post (-1)) :
    ∀ m j, j + m = C → wX_freeSlot_2 post (nI L) T D (nI C) (nI w) (sr_i N) (sr_i O) wd (sr_i h) (sr_i F) dl ew (sr_i M) tm gf wk (sr_i fr) (sr_i xn) (sr_i xa) ww (sr_i ag) (m + 1) (nI j) := by
  intro m
  induction m with
  | zero =>
    intro j hj
    exact br_t (nI_le (by omega) (by omega)) hp
  | succ m ih =>
    intro j hj
    exact br_f (nI_ge (by omega) (by omega)) ⟨sr_n24 (C := C) (by omega) hC, br_f (by rw [nI_clamp (by omega)]; exact hl j (by omega)) (nm_r (nI_1 j) (ih (j + 1) (by omega)))⟩
theorem sr_xfree0 {post : Int32 → Prop} (hC : C ≤ 24) (hl : ∀ j, j < C → wk j ≠ 0) (hp : post (-1)) : wpX_freeSlot post (nI L, T, D, nI C, nI w, sr_i N, sr_i O, wd, sr_i h, sr_i F, dl, ew, sr_i M, tm, gf, wk, sr_i fr, sr_i xn, sr_i xa, ww, sr_i ag) :=
  ⟨C + 1, sr_xf0 hC hl hp C 0 (by omega)⟩
theorem sr_xhf1 {post : Int32 → SX → Prop} {k : Int32} {s i : Nat} (hs : s < 2) (hF : F s < 2 ^ 31) (hC : C ≤ 24) (hi : i < C) (h0 : wk i = 0) (hl : ∀ j, j < i → wk j ≠ 0)
    (hp : post (nI i) (nI L, T, D, nI C, nI w, sr_i N, sr_i O, wd, sr_i h, sr_i F, dl, ew, sr_i M, upd tm s 0, gf, upd wk i k, sr_i (sr_u fr i s), sr_i (sr_u xn i 0), sr_i (sr_u xa i (F s % 16)), upd ww i 0, sr_i (sr_u ag i 0))) :
    wpX_handFrame post (nI L, T, D, nI C, nI w, sr_i N, sr_i O, wd, sr_i h, sr_i F, dl, ew, sr_i M, tm, gf, wk, sr_i fr, sr_i xn, sr_i xa, ww, sr_i ag) (nI s) k := by
  have ic := sr_ic hi hC
  have i24 := sr_n24 hi hC
  refine And.intro (sr_n2 hs) (nm_r (sr_ur (sr_sc hs)) ?_)
  refine sr_xfree1 hC hi h0 hl ?_
  refine br_t (nI_pos' ic) ?_
  refine And.intro i24 (nm_r (sr_ur ic) (And.intro i24 (nm_r (sr_ui ic) (And.intro i24 (nm_r (sr_ui (x := 0) ic) (And.intro (sr_n2 hs) ?_))))))
  refine sr_x4 (y := nI (F s % 16)) (by rw [sr_rd (sr_sc hs)]; exact sr_a15 hF) ?_
  exact And.intro i24 (nm_r (sr_ui ic) (And.intro i24 (nm_r (sr_ur ic) (And.intro i24 (nm_r (sr_ui (x := 0) ic) hp)))))
theorem sr_xhf0 {post : Int32 → SX → Prop} {k : Int32} {s : Nat} (hs : s < 2) (hC : C ≤ 24) (hl : ∀ j, j < C → wk j ≠ 0)
    (hp : post (-1) (nI L, T, D, nI C, nI w, sr_i N, sr_i O, wd, sr_i h, sr_i F, dl, ew, sr_i M, upd tm s 0, gf, wk, sr_i fr, sr_i xn, sr_i xa, ww, sr_i ag)) : wpX_handFrame post (nI L, T, D, nI C, nI w, sr_i N, sr_i O, wd, sr_i h, sr_i F, dl, ew, sr_i M, tm, gf, wk, sr_i fr, sr_i xn, sr_i xa, ww, sr_i ag) (nI s) k := by
  refine And.intro (sr_n2 hs) (nm_r (sr_ur (sr_sc hs)) ?_)
  refine sr_xfree0 hC hl ?_
  exact br_f (by decide) hp
theorem sr_xhd1 {post : SX → Prop} {s p i : Nat} (hs : s < 2) (hp8 : p < 128) (hF : F s < 2 ^ 31) (hC : C ≤ 24) (hi : i < C) (h0 : wk i = 0) (hl : ∀ j, j < i → wk j ≠ 0)
    (hp : post (nI L, T, D, nI C, nI w, sr_i N, sr_i O, wd, sr_i (sr_u h (s * 16 + p % 16) w), sr_i F, dl, ew, sr_i M, upd tm s 0, gf, upd wk i 1, sr_i (sr_u fr i s), sr_i (sr_u xn i (p % 16)), sr_i (sr_u xa i (F s % 16)), upd ww i (wd (s * 128 + p)), sr_i (sr_u ag i 0))) :
    wpX_handData post (nI L, T, D, nI C, nI w, sr_i N, sr_i O, wd, sr_i h, sr_i F, dl, ew, sr_i M, tm, gf, wk, sr_i fr, sr_i xn, sr_i xa, ww, sr_i ag) (nI s) (nI p) := by
  have ic := sr_ic hi hC
  have i24 := sr_n24 hi hC
  have hm : p % 16 < 16 := Nat.mod_lt _ (by decide)
  unfold wpX_handData
  refine sr_x4 (sr_a15 (p := p) (by omega)) ?_
  refine And.intro (sr_n16 hs hm) (nm_r (sr_u16 hs hm) ?_)
  refine sr_xhf1 hs hF hC hi h0 hl ?_
  refine br_f (nI_pos ic) ?_
  have e1 : upd (sr_i (sr_u xn i 0)) (nI i).toNatClampNeg (nI (p % 16)) = sr_i (sr_u xn i (p % 16)) := by rw [sr_ui ic, sr_uu]
  have e2 : upd (upd ww i 0) (nI i).toNatClampNeg (wd (nI s * 128 + nI p).toNatClampNeg) = upd ww i (wd (s * 128 + p)) := by rw [sr_ur ic, sr_k128 hs hp8, sr_uur]
  exact And.intro i24 (nm_r e1 (And.intro (sr_n128 hs hp8) (And.intro i24 (nm_r e2 hp))))
theorem sr_xhd0 {post : SX → Prop} {s p : Nat} (hs : s < 2) (hp8 : p < 128) (hC : C ≤ 24) (hl : ∀ j, j < C → wk j ≠ 0)
    (hp : post (nI L, T, D, nI C, nI w, sr_i N, sr_i O, wd, sr_i (sr_u h (s * 16 + p % 16) w), sr_i F, dl, ew, sr_i M, upd tm s 0, gf, wk, sr_i fr, sr_i xn, sr_i xa, ww, sr_i ag)) : wpX_handData post (nI L, T, D, nI C, nI w, sr_i N, sr_i O, wd, sr_i h, sr_i F, dl, ew, sr_i M, tm, gf, wk, sr_i fr, sr_i xn, sr_i xa, ww, sr_i ag) (nI s) (nI p) := by
  have hm : p % 16 < 16 := Nat.mod_lt _ (by decide)
  unfold wpX_handData
  refine sr_x4 (sr_a15 (p := p) (by omega)) ?_
  refine And.intro (sr_n16 hs hm) (nm_r (sr_u16 hs hm) ?_)
  refine sr_xhf0 hs hC hl ?_
  exact br_t (by decide) hp
theorem sr_xnk1 {post : SX → Prop} {s i : Nat} (hs : s < 2) (hF : F s < 2 ^ 31) (hC : C ≤ 24) (hi : i < C) (h0 : wk i = 0) (hl : ∀ j, j < i → wk j ≠ 0)
    (hp : post (nI L, T, D, nI C, nI w, sr_i N, sr_i O, wd, sr_i h, sr_i F, dl, ew, sr_i M, upd tm s 0, upd gf s 1, upd wk i 3, sr_i (sr_u fr i s), sr_i (sr_u xn i 0), sr_i (sr_u xa i (F s % 16)), upd ww i 0, sr_i (sr_u ag i 0))) :
    wpX_handNak post (nI L, T, D, nI C, nI w, sr_i N, sr_i O, wd, sr_i h, sr_i F, dl, ew, sr_i M, tm, gf, wk, sr_i fr, sr_i xn, sr_i xa, ww, sr_i ag) (nI s) := by
  refine And.intro (sr_n2 hs) (nm_r (sr_ur (sr_sc hs)) ?_)
  refine sr_xhf1 hs hF hC hi h0 hl ?_
  exact hp
theorem sr_xnk0 {post : SX → Prop} {s : Nat} (hs : s < 2) (hC : C ≤ 24) (hl : ∀ j, j < C → wk j ≠ 0)
    (hp : post (nI L, T, D, nI C, nI w, sr_i N, sr_i O, wd, sr_i h, sr_i F, dl, ew, sr_i M, upd tm s 0, upd gf s 1, wk, sr_i fr, sr_i xn, sr_i xa, ww, sr_i ag)) : wpX_handNak post (nI L, T, D, nI C, nI w, sr_i N, sr_i O, wd, sr_i h, sr_i F, dl, ew, sr_i M, tm, gf, wk, sr_i fr, sr_i xn, sr_i xa, ww, sr_i ag) (nI s) := by
  refine And.intro (sr_n2 hs) (nm_r (sr_ur (sr_sc hs)) ?_)
  refine sr_xhf0 hs hC hl ?_
  exact hp
theorem sr_xsh {post : Int32 → Prop} {s p v : Nat} (hs : s < 2) (hp : p < 2 ^ 31) (hv : h (s * 16 + p % 16) = v) (hw : v ≤ w) (k : post (nI (w - v))) :
    wpX_sinceHanded post (nI L, T, D, nI C, nI w, sr_i N, sr_i O, wd, sr_i h, sr_i F, dl, ew, sr_i M, tm, gf, wk, sr_i fr, sr_i xn, sr_i xa, ww, sr_i ag) (nI s) (nI p) := by
  have hm : p % 16 < 16 := Nat.mod_lt _ (by decide)
  unfold wpX_sinceHanded
  refine sr_x4 (sr_a15 hp) ?_
  refine And.intro (sr_n16 hs hm) ?_
  refine sr_pe (P := post) (y := nI (w - v)) ?_ k
  rw [sr_r16 hs hm, hv, pk_sub hw]
theorem sr_xst {post : SX → Prop} {s : Nat} (hs : s < 2) (hp : post (nI L, T, D, nI C, nI w, sr_i N, sr_i O, wd, sr_i h, sr_i F, dl, ew, sr_i M, sr_st tm s D, gf, wk, sr_i fr, sr_i xn, sr_i xa, ww, sr_i ag)) : wpX_startAckTimer post (nI L, T, D, nI C, nI w, sr_i N, sr_i O, wd, sr_i h, sr_i F, dl, ew, sr_i M, tm, gf, wk, sr_i fr, sr_i xn, sr_i xa, ww, sr_i ag) (nI s) := by
  refine And.intro (sr_n2 hs) ?_
  by_cases z : tm s = 0
  · rw [sr_st0 z] at hp
    exact br_t ((sr_rr (sr_sc hs)).trans z) (And.intro (sr_n2 hs) (nm_r (sr_ur (sr_sc hs)) hp))
  · rw [sr_st1 z] at hp
    exact br_f (fun q => z ((sr_rr (sr_sc hs)).symm.trans q)) hp
theorem sr_xage {post : SX → Prop} (hC : C ≤ 24) (hL : L ≤ 12) (hag : ∀ i, i < C → wk i ≠ 0 → ag i ≤ L) (hp : post (nI L, T, D, nI C, nI w, sr_i N, sr_i O, wd, sr_i h, sr_i F, dl, ew, sr_i M, tm, gf, sr_ak L wk ag C, sr_i fr, sr_i xn, sr_i xa, ww, sr_i (sr_aa wk ag C))) :
    ∀ m j, j + m = C → wX_ageWire_2 post (nI L) T D (nI C) (nI w) (m + 1) (nI j) (sr_i N) (sr_i O) wd (sr_i h) (sr_i F) dl ew (sr_i M) tm gf (sr_ak L wk ag j) (sr_i fr) (sr_i xn) (sr_i xa) ww (sr_i (sr_aa wk ag j)) := by
  intro m
  induction m with
  | zero =>
    intro j hj
    have e : j = C := by omega
    subst e
    exact br_t (nI_le (by omega) (by omega)) hp
  | succ m ih =>
    intro j hj
    have hj2 : j < C := by omega
    have jc := sr_ic hj2 hC
    have j24 := sr_n24 hj2 hC
    have e : sr_ak L wk ag j (nI j).toNatClampNeg = wk j := by rw [nI_clamp jc, sr_akj]
    have I := ih (j + 1) (by omega)
    refine br_f (nI_ge (by omega) (by omega)) (And.intro j24 ?_)
    by_cases z : wk j = 0
    · rw [← sr_ak_keep (Or.inl z), ← sr_aa_keep z] at I
      exact br_t (e.trans z) (nm_r (nI_1 j) I)
    · have hj3 := hag j hj2 z
      have e1 : upd (sr_i (sr_aa wk ag j)) (nI j).toNatClampNeg (sr_i (sr_aa wk ag j) (nI j).toNatClampNeg + 1) = sr_i (sr_aa wk ag (j + 1)) := by
        rw [sr_rd jc, sr_aaj, nI_1, sr_ui jc, sr_aa_up z]
      have e2 : sr_i (sr_aa wk ag (j + 1)) (nI j).toNatClampNeg = nI (ag j + 1) := by
        rw [sr_rd jc]; exact congrArg nI (if_pos ⟨by omega, z⟩)
      refine br_f (fun q => z (e.symm.trans q)) (And.intro j24 (And.intro j24 (nm_r e1 (And.intro j24 ?_))))
      by_cases hl : ag j + 1 ≤ L
      · rw [← sr_ak_keep (Or.inr hl)] at I
        exact br_t (by rw [e2]; exact nI_le hl (by omega)) (nm_r (nI_1 j) I)
      · refine br_f (by rw [e2]; exact nI_ge (by omega) (by omega)) (And.intro j24 (nm_r (e' := sr_ak L wk ag (j + 1)) ?_ (nm_r (nI_1 j) I)))
        rw [sr_ur jc, sr_ak_off z (by omega)]
theorem sr_xageW {post : SX → Prop} (hC : C ≤ 24) (hL : L ≤ 12) (hag : ∀ i, i < C → wk i ≠ 0 → ag i ≤ L) (hp : post (nI L, T, D, nI C, nI w, sr_i N, sr_i O, wd, sr_i h, sr_i F, dl, ew, sr_i M, tm, gf, sr_ak L wk ag C, sr_i fr, sr_i xn, sr_i xa, ww, sr_i (sr_aa wk ag C))) :
    wpX_ageWire post (nI L, T, D, nI C, nI w, sr_i N, sr_i O, wd, sr_i h, sr_i F, dl, ew, sr_i M, tm, gf, wk, sr_i fr, sr_i xn, sr_i xa, ww, sr_i ag) := by
  have := sr_xage (T := T) (D := D) (w := w) (N := N) (F := F) (O := O) (M := M) (h := h) (fr := fr) (xn := xn) (xa := xa) (wd := wd) (dl := dl) (ew := ew) (tm := tm) (gf := gf) (ww := ww) hC hL hag hp C 0 (by omega)
  rw [sr_ak0, sr_aa0] at this
  exact ⟨C + 1, this⟩
end
section
variable {L : Nat} {T : Int32} {D : Int32} {C : Nat} {w : Nat} {N : Nat → Nat} {A : Nat → Nat} {F : Nat → Nat} {O : Nat → Nat} {M : Nat → Nat} {t : Nat → Nat} {h : Nat → Nat} {fr : Nat → Nat} {nn : Nat → Nat} {aa : Nat → Nat} {ag : Nat → Nat} {xn : Nat → Nat} {xa : Nat → Nat} {wd : Nat → Int32} {dl : Nat → Int32} {ew : Nat → Int32} {tm : Nat → Int32} {gf : Nat → Int32} {wk : Nat → Int32} {ww : Nat → Int32} {gt : Nat → Int32}
theorem sr_xpass {s d f0 : Nat} (e : s + d = 1) (hgt : ∀ p, p < 128 → gt (d * 128 + p) ≠ 0 → p < N s) (hN : N s ≤ f0 + 4) :
    ∀ m i (F M : Nat → Nat) (dl : Nat → Int32), i + m = 4 → F d = f0 + i → sr_B N F M wd dl ew gt s d →
    ∃ F' M' dl', (∀ j, j ≠ d → F' j = F j) ∧ (∀ j, j ≠ d → M' j = M j) ∧ (∀ p, p < 128 → dl' (s * 128 + p) = dl (s * 128 + p)) ∧ F d ≤ F' d ∧ sr_B N F' M' wd dl' ew gt s d ∧ sr_q gt d (F' d) = 0 ∧
      ∀ post : SX → Prop, post (nI L, T, D, nI C, nI w, sr_i N, sr_i O, wd, sr_i h, sr_i F', dl', ew, sr_i M', tm, gf, wk, sr_i fr, sr_i xn, sr_i xa, ww, sr_i ag) → wX_passOn_2 post (nI d) (nI L) T D (nI C) (nI w) (m + 1) (nI i) (sr_i N) (sr_i O) wd (sr_i h) (sr_i F) dl ew (sr_i M) tm gf wk (sr_i fr) (sr_i xn) (sr_i xa) ww (sr_i ag) := by
  intro m
  induction m with
  | zero =>
    intro i F M dl hi hF b
    have e4 : i = 4 := by omega
    subst e4
    refine ⟨F, M, dl, fun _ _ => rfl, fun _ _ => rfl, fun _ _ => rfl, Nat.le_refl _, b, ?_, fun post k => br_t (nI_le (a := 4) (by omega) (by omega)) k⟩
    refine sr_q0 (fun hz => Decidable.byContradiction fun z => ?_)
    have := hgt _ hz z
    omega
  | succ m ih =>
    intro i F M dl hi hF b
    have hd : d < 2 := by omega
    have dc := sr_sc hd
    have d2 := sr_n2 hd
    have hm := sr_Bm b
    have em : sr_i M (nI d).toNatClampNeg = nI (M d) := sr_rd dc
    have i4 : ¬ (4 : Int32) ≤ nI i := nI_ge (b := 4) (by omega) (by omega)
    by_cases z : sr_q gt d (F d) = 0
    · refine ⟨F, M, dl, fun _ _ => rfl, fun _ _ => rfl, fun _ _ => rfl, Nat.le_refl _, b, z, fun post k => ?_⟩
      refine br_f i4 (And.intro d2 (nm_r (sr_rd dc) (And.intro d2 ?_)))
      exact br_t (by rw [em]; exact (sr_m1 _ hm.1).mpr (by omega)) k
    · obtain ⟨h1, h2⟩ := sr_qn z
      have hz := sr_q1 h1 h2
      have hm4 : F d % 4 < 4 := Nat.mod_lt _ (by decide)
      have ea : nI (F d) &&& 3 = nI (F d % 4) := sr_a3 (by omega)
      have e3 : upd dl (nI d * 128 + nI (F d)).toNatClampNeg (ew (nI d * 4 + (nI (F d) &&& 3)).toNatClampNeg) = upd dl (d * 128 + F d) (ew (d * 4 + F d % 4)) := by
        rw [ea, sr_k128 hd h1, sr_k4 hd hm4]
      have e5 : upd (sr_i M) (nI d).toNatClampNeg (sr_i M (nI d).toNatClampNeg >>> ((1 : Int32) &&& 31)) = sr_i (sr_u M d (M d / 2)) := by
        rw [em, sr_ms _ hm.1, sr_ui dc]
      have e6 : upd (sr_i F) (nI d).toNatClampNeg (nI (F d) + 1) = sr_i (sr_u F d (F d + 1)) := by
        rw [nI_1, sr_ui dc]
      obtain ⟨F', M', dl', k1, k2, k3, k4, k5, k6, k7⟩ := ih (i + 1) (sr_u F d (F d + 1)) (sr_u M d (M d / 2)) (upd dl (d * 128 + F d) (ew (d * 4 + F d % 4))) (by omega) (by rw [sr_us]; omega) (sr_Bstep hd hgt (by omega) b h1 h2)
      refine ⟨F', M', dl', fun j hj => (k1 j hj).trans (sr_un hj), fun j hj => (k2 j hj).trans (sr_un hj), fun p hp => (k3 p hp).trans (pk_un (by omega)), ?_, k5, k6, fun post k => ?_⟩
      · rw [sr_us] at k4; omega
      · refine br_f i4 (And.intro d2 (nm_r (sr_rd dc) (And.intro d2 ?_)))
        refine br_f (by rw [em]; exact fun q => by have := (sr_m1 _ hm.1).mp q; omega) (br_t (nI_lt (b := 128) h1 (by omega)) ?_)
        exact And.intro (by rw [ea]; exact sr_n4 hd hm4) (And.intro (sr_n128 hd h1) (nm_r e3 (And.intro d2 (nm_r e6 (And.intro d2 (And.intro d2 (nm_r e5 (nm_r (nI_1 i) (k7 post k)))))))))
end
end
section
/-! the reference's small methods -/
def sr_FM (gt : Nat → Int32) (s f : Nat) : Prop := f ≤ 128 ∧ (∀ p, p < f → gt (s * 128 + p) ≠ 0) ∧ (f < 128 → gt (s * 128 + f) = 0)
section
variable {L : Nat} {T : Int32} {D : Int32} {C : Nat} {w : Nat} {N : Nat → Nat} {A : Nat → Nat} {F : Nat → Nat} {O : Nat → Nat} {M : Nat → Nat} {t : Nat → Nat} {h : Nat → Nat} {fr : Nat → Nat} {nn : Nat → Nat} {aa : Nat → Nat} {ag : Nat → Nat} {xn : Nat → Nat} {xa : Nat → Nat} {wd : Nat → Int32} {dl : Nat → Int32} {ew : Nat → Int32} {tm : Nat → Int32} {gf : Nat → Int32} {wk : Nat → Int32} {ww : Nat → Int32} {gt : Nat → Int32}
theorem sr_GF {s : Nat} (hs : s < 2) (g : sr_G L C w N O A F M t h wd dl ew gt) : sr_FM gt s (F s) := by
  obtain ⟨g1, g2, g3, g4⟩ := g
  obtain ⟨⟨n1, n2, n3, n4, n5⟩, -, -⟩ := g4 (1 - s) s (by omega)
  obtain ⟨-, -, r1, r2, r3, r4, r5, r6⟩ := g4 s (1 - s) (by omega)
  exact ⟨by omega, r1, r3⟩
theorem sr_yf1 {post : Int32 → Prop} {i : Nat} (hC : C ≤ 24) (hi : i < C) (h0 : wk i = 0) (hl : ∀ j, j < i → wk j ≠ 0) (hp : post (nI i)) :
    ∀ m j, j + m = i → wY_freeSlot_2 post (nI L) T D (nI C) (nI w) wd (sr_i t) gt (sr_i N) (sr_i A) tm gf wk (sr_i fr) (sr_i nn) (sr_i aa) (sr_i ag) (m + 1) (nI j) := by
  intro m
  induction m with
  | zero =>
    intro j hj
    have e : j = i := by omega
    subst e
    exact br_f (nI_ge hi (by omega)) ⟨sr_n24 hi hC, br_t (by rw [nI_clamp (by omega)]; exact h0) hp⟩
  | succ m ih =>
    intro j hj
    exact br_f (nI_ge (by omega) (by omega)) ⟨sr_n24 (C := C) (by omega) hC, br_f (by rw [nI_clamp (by omega)]; exact hl j (by omega)) (nm_r (nI_1 j) (ih (j + 1) (by omega)))⟩
theorem sr_yfree1 {post : Int32 → Prop} {i : Nat} (hC : C ≤ 24) (hi : i < C) (h0 : wk i = 0) (hl : ∀ j, j < i → wk j ≠ 0) (hp : post (nI i)) : wpY_freeSlot post (nI L, T, D, nI C, nI w, wd, sr_i t, gt, sr_i N, sr_i A, tm, gf, wk, sr_i fr, sr_i nn, sr_i aa, sr_i ag) :=
  ⟨i + 1, sr_yf1 hC hi h0 hl hp i 0 (by omega)⟩
theorem sr_yf0 {post : Int32 → Prop} (hC : C ≤ 24) (hl : ∀ j, j < C → wk j ≠ 0) (hp : post (-1)) :
    ∀ m j, j + m = C → wY_freeSlot_2 post (nI L) T D (nI C) (nI w) wd (sr_i t) gt (sr_i N) (sr_i A) tm gf wk (sr_i fr) (sr_i nn) (sr_i aa) (sr_i ag) (m + 1) (nI j) := by
  intro m
  induction m with
  | zero =>
    intro j hj
    exact br_t (nI_le (by omega) (by omega)) hp
  | succ m ih =>
    intro j hj
    exact br_f (nI_ge (by omega) (by omega)) ⟨sr_n24 (C := C) (by omega) hC, br_f (by rw [nI_clamp (by omega)]; exact hl j (by omega)) (nm_r (nI_1 j) (ih (j + 1) (by omega)))⟩
theorem sr_yfree0 {post : Int32 → Prop} (hC : C ≤ 24) (hl : ∀ j, j < C → wk j ≠ 0) (hp : post (-1)) : wpY_freeSlot post (nI L, T, D, nI C, nI w, wd, sr_i t, gt, sr_i N, sr_i A, tm, gf, wk, sr_i fr, sr_i nn, sr_i aa, sr_i ag) :=
  ⟨C + 1, sr_yf0 hC hl hp C 0 (by omega)⟩
theorem sr_ym {post : Int32 → Prop} {s f : Nat} (hs : s < 2) (fm : sr_FM gt s f) (k : post (nI f)) :
    ∀ m j, j + m = f → wY_firstMissing_2 post (nI s) (nI L) T D (nI C) (nI w) wd (sr_i t) gt (sr_i N) (sr_i A) tm gf wk (sr_i fr) (sr_i nn) (sr_i aa) (sr_i ag) (m + 1) (nI j) := by
  obtain ⟨hf, h1, h0⟩ := fm
  intro m
  induction m with
  | zero =>
    intro j hj
    have e : j = f := by omega
    subst e
    by_cases h8 : j = 128
    · subst h8
      exact br_t (nI_le (a := 128) (by omega) (by omega)) k
    · exact br_f (nI_ge (b := 128) (by omega) (by omega)) ⟨sr_n128 hs (by omega), br_t (by rw [sr_k128 hs (by omega)]; exact h0 (by omega)) k⟩
  | succ m ih =>
    intro j hj
    exact br_f (nI_ge (b := 128) (by omega) (by omega)) ⟨sr_n128 hs (by omega), br_f (by rw [sr_k128 hs (by omega)]; exact h1 j (by omega)) (nm_r (nI_1 j) (ih (j + 1) (by omega)))⟩
theorem sr_yfm {post : Int32 → Prop} {s f : Nat} (hs : s < 2) (fm : sr_FM gt s f) (k : post (nI f)) : wpY_firstMissing post (nI L, T, D, nI C, nI w, wd, sr_i t, gt, sr_i N, sr_i A, tm, gf, wk, sr_i fr, sr_i nn, sr_i aa, sr_i ag) (nI s) :=
  ⟨f + 1, sr_ym hs fm k f 0 (by omega)⟩
theorem sr_y471 {post : SY → Prop} {k : Int32} {s p a i : Nat} (hC : C ≤ 24) (hi : i < C) (h0 : wk i = 0) (hl : ∀ j, j < i → wk j ≠ 0)
    (hp : post (nI L, T, D, nI C, nI w, wd, sr_i t, gt, sr_i N, sr_i A, tm, gf, upd wk i k, sr_i (sr_u fr i s), sr_i (sr_u nn i p), sr_i (sr_u aa i a), sr_i (sr_u ag i 0))) :
    wY_hand_47 post (nI s) k (nI p) (nI a) (nI L) T D (nI C) (nI w) wd (sr_i t) gt (sr_i N) (sr_i A) tm gf wk (sr_i fr) (sr_i nn) (sr_i aa) (sr_i ag) := by
  have ic := sr_ic hi hC
  have i24 := sr_n24 hi hC
  unfold wY_hand_47
  refine sr_yfree1 hC hi h0 hl ?_
  refine br_f (nI_pos ic) ?_
  exact And.intro i24 (nm_r (sr_ur ic) (And.intro i24 (nm_r (sr_ui ic) (And.intro i24 (nm_r (sr_ui ic) (And.intro i24 (nm_r (sr_ui ic) (And.intro i24 (nm_r (sr_ui (x := 0) ic) hp)))))))))
theorem sr_y470 {post : SY → Prop} {k : Int32} {s p a : Nat} (hC : C ≤ 24) (hl : ∀ j, j < C → wk j ≠ 0)
    (hp : post (nI L, T, D, nI C, nI w, wd, sr_i t, gt, sr_i N, sr_i A, tm, gf, wk, sr_i fr, sr_i nn, sr_i aa, sr_i ag)) : wY_hand_47 post (nI s) k (nI p) (nI a) (nI L) T D (nI C) (nI w) wd (sr_i t) gt (sr_i N) (sr_i A) tm gf wk (sr_i fr) (sr_i nn) (sr_i aa) (sr_i ag) := by
  unfold wY_hand_47
  refine sr_yfree0 hC hl ?_
  exact br_t (by decide) hp
theorem sr_yhd1 {post : SY → Prop} {s p i : Nat} (hs : s < 2) (hp8 : p < 128) (fm : sr_FM gt s (F s)) (hC : C ≤ 24) (hi : i < C) (h0 : wk i = 0) (hl : ∀ j, j < i → wk j ≠ 0)
    (hp : post (nI L, T, D, nI C, nI w, wd, sr_i (sr_u t (s * 128 + p) w), gt, sr_i N, sr_i A, upd tm s 0, gf, upd wk i 1, sr_i (sr_u fr i s), sr_i (sr_u nn i p), sr_i (sr_u aa i (F s)), sr_i (sr_u ag i 0))) :
    wpY_hand post (nI L, T, D, nI C, nI w, wd, sr_i t, gt, sr_i N, sr_i A, tm, gf, wk, sr_i fr, sr_i nn, sr_i aa, sr_i ag) (nI s) 1 (nI p) := by
  unfold wpY_hand
  refine sr_yfm hs fm ?_
  refine And.intro (sr_n2 hs) (nm_r (sr_ur (sr_sc hs)) (br_t rfl (And.intro (sr_n128 hs hp8) (nm_r (sr_u128 hs hp8) ?_))))
  exact br_f (by decide) (sr_y471 hC hi h0 hl hp)
theorem sr_yhd0 {post : SY → Prop} {s p : Nat} (hs : s < 2) (hp8 : p < 128) (fm : sr_FM gt s (F s)) (hC : C ≤ 24) (hl : ∀ j, j < C → wk j ≠ 0)
    (hp : post (nI L, T, D, nI C, nI w, wd, sr_i (sr_u t (s * 128 + p) w), gt, sr_i N, sr_i A, upd tm s 0, gf, wk, sr_i fr, sr_i nn, sr_i aa, sr_i ag)) :
    wpY_hand post (nI L, T, D, nI C, nI w, wd, sr_i t, gt, sr_i N, sr_i A, tm, gf, wk, sr_i fr, sr_i nn, sr_i aa, sr_i ag) (nI s) 1 (nI p) := by
  unfold wpY_hand
  refine sr_yfm hs fm ?_
  refine And.intro (sr_n2 hs) (nm_r (sr_ur (sr_sc hs)) (br_t rfl (And.intro (sr_n128 hs hp8) (nm_r (sr_u128 hs hp8) ?_))))
  exact br_f (by decide) (sr_y470 hC hl hp)
theorem sr_yhk1 {post : SY → Prop} {s i : Nat} (hs : s < 2) (fm : sr_FM gt s (F s)) (hC : C ≤ 24) (hi : i < C) (h0 : wk i = 0) (hl : ∀ j, j < i → wk j ≠ 0)
    (hp : post (nI L, T, D, nI C, nI w, wd, sr_i t, gt, sr_i N, sr_i A, upd tm s 0, gf, upd wk i 2, sr_i (sr_u fr i s), sr_i (sr_u nn i 0), sr_i (sr_u aa i (F s)), sr_i (sr_u ag i 0))) :
    wpY_hand post (nI L, T, D, nI C, nI w, wd, sr_i t, gt, sr_i N, sr_i A, tm, gf, wk, sr_i fr, sr_i nn, sr_i aa, sr_i ag) (nI s) 2 0 := by
  unfold wpY_hand
  refine sr_yfm hs fm ?_
  refine And.intro (sr_n2 hs) (nm_r (sr_ur (sr_sc hs)) (br_f (by decide) ?_))
  exact br_f (by decide) (sr_y471 (p := 0) hC hi h0 hl hp)
theorem sr_yhk0 {post : SY → Prop} {s : Nat} (hs : s < 2) (fm : sr_FM gt s (F s)) (hC : C ≤ 24) (hl : ∀ j, j < C → wk j ≠ 0)
    (hp : post (nI L, T, D, nI C, nI w, wd, sr_i t, gt, sr_i N, sr_i A, upd tm s 0, gf, wk, sr_i fr, sr_i nn, sr_i aa, sr_i ag)) : wpY_hand post (nI L, T, D, nI C, nI w, wd, sr_i t, gt, sr_i N, sr_i A, tm, gf, wk, sr_i fr, sr_i nn, sr_i aa, sr_i ag) (nI s) 2 0 := by
  unfold wpY_hand
  refine sr_yfm hs fm ?_
  refine And.intro (sr_n2 hs) (nm_r (sr_ur (sr_sc hs)) (br_f (by decide) ?_))
  exact br_f (by decide) (sr_y470 (p := 0) hC hl hp)
theorem sr_yhn1 {post : SY → Prop} {s i : Nat} (hs : s < 2) (fm : sr_FM gt s (F s)) (hC : C ≤ 24) (hi : i < C) (h0 : wk i = 0) (hl : ∀ j, j < i → wk j ≠ 0)
    (hp : post (nI L, T, D, nI C, nI w, wd, sr_i t, gt, sr_i N, sr_i A, upd tm s 0, upd gf s 1, upd wk i 3, sr_i (sr_u fr i s), sr_i (sr_u nn i 0), sr_i (sr_u aa i (F s)), sr_i (sr_u ag i 0))) :
    wpY_hand post (nI L, T, D, nI C, nI w, wd, sr_i t, gt, sr_i N, sr_i A, tm, gf, wk, sr_i fr, sr_i nn, sr_i aa, sr_i ag) (nI s) 3 0 := by
  unfold wpY_hand
  refine sr_yfm hs fm ?_
  refine And.intro (sr_n2 hs) (nm_r (sr_ur (sr_sc hs)) (br_f (by decide) ?_))
  exact br_t rfl (And.intro (sr_n2 hs) (nm_r (sr_ur (sr_sc hs)) (sr_y471 (p := 0) hC hi h0 hl hp)))
theorem sr_yhn0 {post : SY → Prop} {s : Nat} (hs : s < 2) (fm : sr_FM gt s (F s)) (hC : C ≤ 24) (hl : ∀ j, j < C → wk j ≠ 0)
    (hp : post (nI L, T, D, nI C, nI w, wd, sr_i t, gt, sr_i N, sr_i A, upd tm s 0, upd gf s 1, wk, sr_i fr, sr_i nn, sr_i aa, sr_i ag)) : wpY_hand post (nI L, T, D, nI C, nI w, wd, sr_i t, gt, sr_i N, sr_i A, tm, gf, wk, sr_i fr, sr_i nn, sr_i aa, sr_i ag) (nI s) 3 0 := by
  unfold wpY_hand
  refine sr_yfm hs fm ?_
  refine And.intro (sr_n2 hs) (nm_r (sr_ur (sr_sc hs)) (br_f (by decide) ?_))
  exact br_t rfl (And.intro (sr_n2 hs) (nm_r (sr_ur (sr_sc hs)) (sr_y470 (p := 0) hC hl hp)))
theorem sr_yst {post : SY → Prop} {s : Nat} (hs : s < 2) (hp : post (nI L, T, D, nI C, nI w, wd, sr_i t, gt, sr_i N, sr_i A, sr_st tm s D, gf, wk, sr_i fr, sr_i nn, sr_i aa, sr_i ag)) : wpY_startAckTimer post (nI L, T, D, nI C, nI w, wd, sr_i t, gt, sr_i N, sr_i A, tm, gf, wk, sr_i fr, sr_i nn, sr_i aa, sr_i ag) (nI s) := by
  refine And.intro (sr_n2 hs) ?_
  by_cases z : tm s = 0
  · rw [sr_st0 z] at hp
    exact br_t ((sr_rr (sr_sc hs)).trans z) (And.intro (sr_n2 hs) (nm_r (sr_ur (sr_sc hs)) hp))
  · rw [sr_st1 z] at hp
    exact br_f (fun q => z ((sr_rr (sr_sc hs)).symm.trans q)) hp
theorem sr_yage {post : SY → Prop} (hC : C ≤ 24) (hL : L ≤ 12) (hag : ∀ i, i < C → wk i ≠ 0 → ag i ≤ L) (hp : ∃ n67 : Nat, wY_oneTick_67 post n67 0 (nI L) T D (nI C) (nI w) wd (sr_i t) gt (sr_i N) (sr_i A) tm gf (sr_ak L wk ag C) (sr_i fr) (sr_i nn) (sr_i aa) (sr_i (sr_aa wk ag C))) :
    ∀ m j, j + m = C → wY_oneTick_12 post (nI L) T D (nI C) (nI w) (m + 1) (nI j) wd (sr_i t) gt (sr_i N) (sr_i A) tm gf (sr_ak L wk ag j) (sr_i fr) (sr_i nn) (sr_i aa) (sr_i (sr_aa wk ag j)) := by
  intro m
  induction m with
  | zero =>
    intro j hj
    have e : j = C := by omega
    subst e
    exact br_t (nI_le (by omega) (by omega)) hp
  | succ m ih =>
    intro j hj
    have hj2 : j < C := by omega
    have jc := sr_ic hj2 hC
    have j24 := sr_n24 hj2 hC
    have e : sr_ak L wk ag j (nI j).toNatClampNeg = wk j := by rw [nI_clamp jc, sr_akj]
    have I := ih (j + 1) (by omega)
    refine br_f (nI_ge (by omega) (by omega)) (And.intro j24 ?_)
    by_cases z : wk j = 0
    · rw [← sr_ak_keep (Or.inl z), ← sr_aa_keep z] at I
      exact br_t (e.trans z) (nm_r (nI_1 j) I)
    · have hj3 := hag j hj2 z
      have e1 : upd (sr_i (sr_aa wk ag j)) (nI j).toNatClampNeg (sr_i (sr_aa wk ag j) (nI j).toNatClampNeg + 1) = sr_i (sr_aa wk ag (j + 1)) := by
        rw [sr_rd jc, sr_aaj, nI_1, sr_ui jc, sr_aa_up z]
      have e2 : sr_i (sr_aa wk ag (j + 1)) (nI j).toNatClampNeg = nI (ag j + 1) := by
        rw [sr_rd jc]; exact congrArg nI (if_pos ⟨by omega, z⟩)
      refine br_f (fun q => z (e.symm.trans q)) (And.intro j24 (And.intro j24 (nm_r e1 (And.intro j24 ?_))))
      by_cases hl : ag j + 1 ≤ L
      · rw [← sr_ak_keep (Or.inr hl)] at I
        exact br_t (by rw [e2]; exact nI_le hl (by omega)) (nm_r (nI_1 j) I)
      · refine br_f (by rw [e2]; exact nI_ge (by omega) (by omega)) (And.intro j24 (nm_r (e' := sr_ak L wk ag (j + 1)) ?_ (nm_r (nI_1 j) I)))
        rw [sr_ur jc, sr_ak_off z (by omega)]
theorem sr_yageW {post : SY → Prop} (hC : C ≤ 24) (hL : L ≤ 12) (hag : ∀ i, i < C → wk i ≠ 0 → ag i ≤ L) (hp : ∃ n67 : Nat, wY_oneTick_67 post n67 0 (nI L) T D (nI C) (nI (w + 1)) wd (sr_i t) gt (sr_i N) (sr_i A) tm gf (sr_ak L wk ag C) (sr_i fr) (sr_i nn) (sr_i aa) (sr_i (sr_aa wk ag C))) :
    wpY_oneTick post (nI L, T, D, nI C, nI w, wd, sr_i t, gt, sr_i N, sr_i A, tm, gf, wk, sr_i fr, sr_i nn, sr_i aa, sr_i ag) := by
  have := sr_yage (w := w + 1) hC hL hag hp C 0 (by omega)
  rw [sr_ak0, sr_aa0] at this
  exact nm_r (nI_1 w) ⟨C + 1, this⟩
end
end
section
/-! lockstep: both sides hand a frame -/
section
variable {L : Nat} {T : Int32} {D : Int32} {C : Nat} {w : Nat} {N : Nat → Nat} {A : Nat → Nat} {F : Nat → Nat} {O : Nat → Nat} {M : Nat → Nat} {t : Nat → Nat} {h : Nat → Nat} {fr : Nat → Nat} {nn : Nat → Nat} {aa : Nat → Nat} {ag : Nat → Nat} {xn : Nat → Nat} {xa : Nat → Nat} {wd : Nat → Int32} {dl : Nat → Int32} {ew : Nat → Int32} {tm : Nat → Int32} {gf : Nat → Int32} {wk : Nat → Int32} {ww : Nat → Int32} {gt : Nat → Int32}
theorem sr_G4 {s : Nat} (hs : s < 2) (g : sr_G L C w N O A F M t h wd dl ew gt) : C ≤ 24 ∧ N s ≤ 128 ∧ F s ≤ 128 ∧ O s + A s = N s ∧ O s ≤ 4 ∧ L ≤ 12 ∧ w ≤ 20000 := by
  obtain ⟨⟨a1, a2, a3, a4, a5⟩, b1, b2, b3, b4, b5⟩ := sr_Gn (s := s) (d := 1 - s) (by omega) g
  exact ⟨g.2.1, a3, by omega, a1, a2, g.1, g.2.2.1⟩
/-- position p is handed: the times stand already with the new value in g and H -/
theorem sr_Ldata {s p : Nat} {t0 h0 : Nat → Nat} (hs : s < 2) (hp : A s ≤ p) (hp2 : p < N s) (et : t = sr_u t0 (s * 128 + p) w) (eh : h = sr_u h0 (s * 16 + p % 16) w) (g : sr_G L C w N O A F M t h wd dl ew gt) (H : sr_H L C w N F t wd wk fr nn aa ag xn xa ww) :
    ∃ u' v', sr_Q L T D C w N A F u' v' ∧ (∀ post : SX → Prop, post u' → wpX_handData post (nI L, T, D, nI C, nI w, sr_i N, sr_i O, wd, sr_i h0, sr_i F, dl, ew, sr_i M, tm, gf, wk, sr_i fr, sr_i xn, sr_i xa, ww, sr_i ag) (nI s) (nI p)) ∧ (∀ post : SY → Prop, post v' → wpY_hand post (nI L, T, D, nI C, nI w, wd, sr_i t0, gt, sr_i N, sr_i A, tm, gf, wk, sr_i fr, sr_i nn, sr_i aa, sr_i ag) (nI s) 1 (nI p)) := by
  obtain ⟨hC, hN, hF, -, -, -, -⟩ := sr_G4 hs g
  have fm := sr_GF hs g
  have ht : t (s * 128 + p) = w := by rw [et, sr_us]
  rcases sr_fs wk C with ⟨i, hi, i0, il⟩ | il
  · refine ⟨(nI L, T, D, nI C, nI w, sr_i N, sr_i O, wd, sr_i h, sr_i F, dl, ew, sr_i M, upd tm s 0, gf, upd wk i 1, sr_i (sr_u fr i s), sr_i (sr_u xn i (p % 16)), sr_i (sr_u xa i (F s % 16)), upd ww i (wd (s * 128 + p)), sr_i (sr_u ag i 0)),
      (nI L, T, D, nI C, nI w, wd, sr_i t, gt, sr_i N, sr_i A, upd tm s 0, gf, upd wk i 1, sr_i (sr_u fr i s), sr_i (sr_u nn i p), sr_i (sr_u aa i (F s)), sr_i (sr_u ag i 0)),
      sr_mk g (sr_Hnew hs (sr_Pdata hp hp2 ht g) H), fun post k => ?_, fun post k => ?_⟩
    · subst eh; exact sr_xhd1 hs (by omega) (by omega) hC hi i0 il k
    · subst et; exact sr_yhd1 hs (by omega) fm hC hi i0 il k
  · refine ⟨(nI L, T, D, nI C, nI w, sr_i N, sr_i O, wd, sr_i h, sr_i F, dl, ew, sr_i M, upd tm s 0, gf, wk, sr_i fr, sr_i xn, sr_i xa, ww, sr_i ag), (nI L, T, D, nI C, nI w, wd, sr_i t, gt, sr_i N, sr_i A, upd tm s 0, gf, wk, sr_i fr, sr_i nn, sr_i aa, sr_i ag), sr_mk g H, fun post k => ?_, fun post k => ?_⟩
    · subst eh; exact sr_xhd0 hs (by omega) hC il k
    · subst et; exact sr_yhd0 hs (by omega) fm hC il k
theorem sr_Lhand {s p : Nat} (hs : s < 2) (hp : A s ≤ p) (hp2 : p < N s) (g : sr_G L C w N O A F M t h wd dl ew gt) (H : sr_H L C w N F t wd wk fr nn aa ag xn xa ww) :
    ∃ u' v', sr_Q L T D C w N A F u' v' ∧ (∀ post : SX → Prop, post u' → wpX_handData post (nI L, T, D, nI C, nI w, sr_i N, sr_i O, wd, sr_i h, sr_i F, dl, ew, sr_i M, tm, gf, wk, sr_i fr, sr_i xn, sr_i xa, ww, sr_i ag) (nI s) (nI p)) ∧ (∀ post : SY → Prop, post v' → wpY_hand post (nI L, T, D, nI C, nI w, wd, sr_i t, gt, sr_i N, sr_i A, tm, gf, wk, sr_i fr, sr_i nn, sr_i aa, sr_i ag) (nI s) 1 (nI p)) :=
  sr_Ldata hs hp hp2 rfl rfl (sr_Ghand hs hp hp2 g) (sr_Ht sr_tu H)
theorem sr_Lack {s : Nat} (hs : s < 2) (g : sr_G L C w N O A F M t h wd dl ew gt) (H : sr_H L C w N F t wd wk fr nn aa ag xn xa ww) :
    ∃ u' v', sr_Q L T D C w N A F u' v' ∧ (∀ post : Int32 → SX → Prop, (∀ r, post r u') → wpX_handFrame post (nI L, T, D, nI C, nI w, sr_i N, sr_i O, wd, sr_i h, sr_i F, dl, ew, sr_i M, tm, gf, wk, sr_i fr, sr_i xn, sr_i xa, ww, sr_i ag) (nI s) 2) ∧ (∀ post : SY → Prop, post v' → wpY_hand post (nI L, T, D, nI C, nI w, wd, sr_i t, gt, sr_i N, sr_i A, tm, gf, wk, sr_i fr, sr_i nn, sr_i aa, sr_i ag) (nI s) 2 0) := by
  obtain ⟨hC, hN, hF, -, -, -, -⟩ := sr_G4 hs g
  have fm := sr_GF hs g
  rcases sr_fs wk C with ⟨i, hi, i0, il⟩ | il
  · exact ⟨(nI L, T, D, nI C, nI w, sr_i N, sr_i O, wd, sr_i h, sr_i F, dl, ew, sr_i M, upd tm s 0, gf, upd wk i 2, sr_i (sr_u fr i s), sr_i (sr_u xn i 0), sr_i (sr_u xa i (F s % 16)), upd ww i 0, sr_i (sr_u ag i 0)),
      (nI L, T, D, nI C, nI w, wd, sr_i t, gt, sr_i N, sr_i A, upd tm s 0, gf, upd wk i 2, sr_i (sr_u fr i s), sr_i (sr_u nn i 0), sr_i (sr_u aa i (F s)), sr_i (sr_u ag i 0)),
      sr_mk g (sr_Hnew hs (sr_Pack (by decide) g) H), fun post k => sr_xhf1 hs (by omega) hC hi i0 il (k _), fun post k => sr_yhk1 hs fm hC hi i0 il k⟩
  · exact ⟨(nI L, T, D, nI C, nI w, sr_i N, sr_i O, wd, sr_i h, sr_i F, dl, ew, sr_i M, upd tm s 0, gf, wk, sr_i fr, sr_i xn, sr_i xa, ww, sr_i ag), (nI L, T, D, nI C, nI w, wd, sr_i t, gt, sr_i N, sr_i A, upd tm s 0, gf, wk, sr_i fr, sr_i nn, sr_i aa, sr_i ag), sr_mk g H, fun post k => sr_xhf0 hs hC il (k _), fun post k => sr_yhk0 hs fm hC il k⟩
theorem sr_Lnak {s : Nat} (hs : s < 2) (g : sr_G L C w N O A F M t h wd dl ew gt) (H : sr_H L C w N F t wd wk fr nn aa ag xn xa ww) :
    ∃ u' v', sr_Q L T D C w N A F u' v' ∧ (∀ post : SX → Prop, post u' → wpX_handNak post (nI L, T, D, nI C, nI w, sr_i N, sr_i O, wd, sr_i h, sr_i F, dl, ew, sr_i M, tm, gf, wk, sr_i fr, sr_i xn, sr_i xa, ww, sr_i ag) (nI s)) ∧ (∀ post : SY → Prop, post v' → wpY_hand post (nI L, T, D, nI C, nI w, wd, sr_i t, gt, sr_i N, sr_i A, tm, gf, wk, sr_i fr, sr_i nn, sr_i aa, sr_i ag) (nI s) 3 0) := by
  obtain ⟨hC, hN, hF, -, -, -, -⟩ := sr_G4 hs g
  have fm := sr_GF hs g
  rcases sr_fs wk C with ⟨i, hi, i0, il⟩ | il
  · exact ⟨(nI L, T, D, nI C, nI w, sr_i N, sr_i O, wd, sr_i h, sr_i F, dl, ew, sr_i M, upd tm s 0, upd gf s 1, upd wk i 3, sr_i (sr_u fr i s), sr_i (sr_u xn i 0), sr_i (sr_u xa i (F s % 16)), upd ww i 0, sr_i (sr_u ag i 0)),
      (nI L, T, D, nI C, nI w, wd, sr_i t, gt, sr_i N, sr_i A, upd tm s 0, upd gf s 1, upd wk i 3, sr_i (sr_u fr i s), sr_i (sr_u nn i 0), sr_i (sr_u aa i (F s)), sr_i (sr_u ag i 0)),
      sr_mk g (sr_Hnew hs (sr_Pack (by decide) g) H), fun post k => sr_xnk1 hs (by omega) hC hi i0 il k, fun post k => sr_yhn1 hs fm hC hi i0 il k⟩
  · exact ⟨(nI L, T, D, nI C, nI w, sr_i N, sr_i O, wd, sr_i h, sr_i F, dl, ew, sr_i M, upd tm s 0, upd gf s 1, wk, sr_i fr, sr_i xn, sr_i xa, ww, sr_i ag), (nI L, T, D, nI C, nI w, wd, sr_i t, gt, sr_i N, sr_i A, upd tm s 0, upd gf s 1, wk, sr_i fr, sr_i nn, sr_i aa, sr_i ag), sr_mk g H, fun post k => sr_xnk0 hs hC il k, fun post k => sr_yhn0 hs fm hC il k⟩
end
end
section
/-! lockstep: the timers of a station, a tick -/
def sr_X56 (post : SX → Prop) (x1 : Int32) (u : SX) : Prop := match u with
  | (f1, f2, f3, f4, f5, a1, a2, a3, a4, a5, a6, a7, a8, a9, a10, a11, a12, a13, a14, a15, a16) => wX_runTimers_56 post x1 f1 f2 f3 f4 f5 a1 a2 a3 a4 a5 a6 a7 a8 a9 a10 a11 a12 a13 a14 a15 a16
def sr_X8 (post : SX → Prop) (x1 x2 : Int32) (n : Nat) (x3 : Int32) (u : SX) : Prop := match u with
  | (f1, f2, f3, f4, f5, a1, a2, a3, a4, a5, a6, a7, a8, a9, a10, a11, a12, a13, a14, a15, a16) => wX_runTimers_8 post x1 x2 n x3 f1 f2 f3 f4 f5 a1 a2 a3 a4 a5 a6 a7 a8 a9 a10 a11 a12 a13 a14 a15 a16
abbrev sr_Jt : Type := Int32 → Int32 → Int32 → Int32 → Int32 → Int32 → (Nat → Int32) → (Nat → Int32) → (Nat → Int32) → (Nat → Int32) → (Nat → Int32) → (Nat → Int32) → (Nat → Int32) → (Nat → Int32) → (Nat → Int32) → (Nat → Int32) → (Nat → Int32) → (Nat → Int32) → Prop
def sr_J (J : sr_Jt) (x : Int32) (v : SY) : Prop := match v with
  | (f1, f2, f3, f4, f5, a1, a2, a3, a4, a5, a6, a7, a8, a9, a10, a11, a12) => J x f1 f2 f3 f4 f5 a1 a2 a3 a4 a5 a6 a7 a8 a9 a10 a11 a12
def sr_Y74 (post : SY → Prop) (J : sr_Jt) (x1 : Int32) (n : Nat) (x2 : Int32) (v : SY) : Prop := match v with
  | (f1, f2, f3, f4, f5, a1, a2, a3, a4, a5, a6, a7, a8, a9, a10, a11, a12) => wY_oneTick_74 post J x1 n x2 f1 f2 f3 f4 f5 a1 a2 a3 a4 a5 a6 a7 a8 a9 a10 a11 a12
section
variable {L : Nat} {T : Int32} {D : Int32} {C : Nat} {w : Nat} {N : Nat → Nat} {A : Nat → Nat} {F : Nat → Nat} {O : Nat → Nat} {M : Nat → Nat} {t : Nat → Nat} {h : Nat → Nat} {fr : Nat → Nat} {nn : Nat → Nat} {aa : Nat → Nat} {ag : Nat → Nat} {xn : Nat → Nat} {xa : Nat → Nat} {wd : Nat → Int32} {dl : Nat → Int32} {ew : Nat → Int32} {tm : Nat → Int32} {gf : Nat → Int32} {wk : Nat → Int32} {ww : Nat → Int32} {gt : Nat → Int32}
theorem sr_Ltail {s : Nat} (hs : s < 2) (g : sr_G L C w N O A F M t h wd dl ew gt) (H : sr_H L C w N F t wd wk fr nn aa ag xn xa ww) :
    ∃ u' v', sr_Q L T D C w N A F u' v' ∧ (∀ post : SX → Prop, post u' → sr_X56 post (nI s) (nI L, T, D, nI C, nI w, sr_i N, sr_i O, wd, sr_i h, sr_i F, dl, ew, sr_i M, tm, gf, wk, sr_i fr, sr_i xn, sr_i xa, ww, sr_i ag)) ∧ (∀ (post : SY → Prop) (J : sr_Jt) (n : Nat), sr_J J (nI (s + 1)) v' → sr_Y74 post J (nI s) (n + 1) (nI 128) (nI L, T, D, nI C, nI w, wd, sr_i t, gt, sr_i N, sr_i A, tm, gf, wk, sr_i fr, sr_i nn, sr_i aa, sr_i ag)) := by
  have s2 := sr_n2 hs
  have sc := sr_sc hs
  have le8 : (128 : Int32) ≤ nI 128 := nI_le (a := 128) (by omega) (by omega)
  by_cases z : tm s ≤ 0
  · refine ⟨(nI L, T, D, nI C, nI w, sr_i N, sr_i O, wd, sr_i h, sr_i F, dl, ew, sr_i M, tm, gf, wk, sr_i fr, sr_i xn, sr_i xa, ww, sr_i ag), (nI L, T, D, nI C, nI w, wd, sr_i t, gt, sr_i N, sr_i A, tm, gf, wk, sr_i fr, sr_i nn, sr_i aa, sr_i ag), sr_mk g H, fun post k => ?_, fun post J n k => ?_⟩
    · exact And.intro s2 (br_t (by rw [nI_clamp sc]; exact z) k)
    · exact br_t le8 (And.intro s2 (br_t (by rw [nI_clamp sc]; exact z) (nm_r (nI_1 s) k)))
  · have e1 : upd tm (nI s).toNatClampNeg (tm (nI s).toNatClampNeg - 1) = upd tm s (tm s - 1) := by rw [nI_clamp sc]
    have e2 : upd tm s (tm s - 1) (nI s).toNatClampNeg = tm s - 1 := by rw [nI_clamp sc, pk_us]
    by_cases y : tm s - 1 = 0
    · obtain ⟨u1, v1, q, hX, hY⟩ := sr_Lack (T := T) (D := D) (tm := upd tm s (tm s - 1)) (gf := gf) hs g H
      revert hX hY
      apply sr_el q
      intro O1 M1 t1 h1 fr1 nn1 aa1 ag1 xn1 xa1 wd1 dl1 ew1 tm1 gf1 wk1 ww1 gt1 g1 H1 hX hY
      refine ⟨(nI L, T, D, nI C, nI w, sr_i N, sr_i O1, wd1, sr_i h1, sr_i F, dl1, ew1, sr_i M1, tm1, gf1, wk1, sr_i fr1, sr_i xn1, sr_i xa1, ww1, sr_i ag1), (nI L, T, D, nI C, nI w, wd1, sr_i t1, gt1, sr_i N, sr_i A, tm1, gf1, wk1, sr_i fr1, sr_i nn1, sr_i aa1, sr_i ag1), sr_mk g1 H1, fun post k => ?_, fun post J n k => ?_⟩
      · exact And.intro s2 (br_f (by rw [nI_clamp sc]; exact z) (And.intro s2 (And.intro s2 (nm_r e1 (And.intro s2 (br_t (e2.trans y) (hX _ (fun _ => k))))))))
      · exact br_t le8 (And.intro s2 (br_f (by rw [nI_clamp sc]; exact z) (And.intro s2 (And.intro s2 (nm_r e1 (And.intro s2 (br_t (e2.trans y) (hY _ (nm_r (nI_1 s) k)))))))))
    · refine ⟨(nI L, T, D, nI C, nI w, sr_i N, sr_i O, wd, sr_i h, sr_i F, dl, ew, sr_i M, upd tm s (tm s - 1), gf, wk, sr_i fr, sr_i xn, sr_i xa, ww, sr_i ag), (nI L, T, D, nI C, nI w, wd, sr_i t, gt, sr_i N, sr_i A, upd tm s (tm s - 1), gf, wk, sr_i fr, sr_i nn, sr_i aa, sr_i ag), sr_mk g H, fun post k => ?_, fun post J n k => ?_⟩
      · exact And.intro s2 (br_f (by rw [nI_clamp sc]; exact z) (And.intro s2 (And.intro s2 (nm_r e1 (And.intro s2 (br_f (fun q => y (e2.symm.trans q)) k))))))
      · exact br_t le8 (And.intro s2 (br_f (by rw [nI_clamp sc]; exact z) (And.intro s2 (And.intro s2 (nm_r e1 (And.intro s2 (br_f (fun q => y (e2.symm.trans q)) (nm_r (nI_1 s) k))))))))
theorem sr_Lloop {s : Nat} (hs : s < 2) : ∀ m j (u : SX) (v : SY), sr_Q L T D C w N A F u v → A s + j + m = N s →
    ∃ u' v', sr_Q L T D C w N A F u' v' ∧ (∀ post : SX → Prop, sr_X56 post (nI s) u' → sr_X8 post (nI s) (nI (A s)) (m + 1) (nI j) u) ∧
      (∀ (post : SY → Prop) (J : sr_Jt) (n : Nat), sr_Y74 post J (nI s) n (nI (N s)) v' → sr_Y74 post J (nI s) (n + m) (nI (A s + j)) v) := by
  have s2 := sr_n2 hs
  have sc := sr_sc hs
  intro m
  induction m with
  | zero =>
    intro j u v q hj
    apply sr_el q
    intro O M t h fr nn aa ag xn xa wd dl ew tm gf wk ww gt g H
    obtain ⟨hC, hN, hF, hO, hO4, hL, hw⟩ := sr_G4 hs g
    refine ⟨(nI L, T, D, nI C, nI w, sr_i N, sr_i O, wd, sr_i h, sr_i F, dl, ew, sr_i M, tm, gf, wk, sr_i fr, sr_i xn, sr_i xa, ww, sr_i ag), (nI L, T, D, nI C, nI w, wd, sr_i t, gt, sr_i N, sr_i A, tm, gf, wk, sr_i fr, sr_i nn, sr_i aa, sr_i ag), sr_mk g H, fun post k => ?_, fun post J n k => ?_⟩
    · exact br_c (fun _ => k) (fun _ => And.intro s2 (br_t (by rw [sr_rd sc]; exact nI_le (by omega) (by omega)) k))
    · have e : A s + j = N s := by omega
      rw [e]; exact k
  | succ m ih =>
    intro j u v q hj
    apply sr_el q
    intro O M t h fr nn aa ag xn xa wd dl ew tm gf wk ww gt g H
    obtain ⟨hC, hN, hF, hO, hO4, hL, hw⟩ := sr_G4 hs g
    have ht := (g.2.2.2 s (1 - s) (by omega)).2.1
    have hv := ht.2 (A s + j) (by omega) (by omega)
    have hv2 := ht.1 (A s + j) (by omega)
    have p8 : A s + j < 128 := by omega
    have x1 : ¬ (4 : Int32) ≤ nI j := nI_ge (b := 4) (by omega) (by omega)
    have x2 : ¬ sr_i O (nI s).toNatClampNeg ≤ nI j := by rw [sr_rd sc]; exact nI_ge (by omega) (by omega)
    have xp : nI (A s) + nI j = nI (A s + j) := nI_add _ _
    have y1 : ¬ (128 : Int32) ≤ nI (A s + j) := nI_ge (b := 128) (by omega) (by omega)
    have y2 : ¬ nI (A s + j) < sr_i A (nI s).toNatClampNeg := by rw [sr_rd sc]; exact nI_nlt (by omega) (by omega)
    have y3 : ¬ sr_i N (nI s).toNatClampNeg ≤ nI (A s + j) := by rw [sr_rd sc]; exact nI_ge (by omega) (by omega)
    have y4 := sr_n128 hs p8
    have ey : nI w - sr_i t (nI s * 128 + nI (A s + j)).toNatClampNeg = nI (w - t (s * 128 + (A s + j))) := by rw [sr_r128 hs p8, pk_sub hv2]
    by_cases c : nI (w - t (s * 128 + (A s + j))) < T
    · obtain ⟨u', v', q', kX, kY⟩ := ih (j + 1) _ _ (sr_mk (T := T) (D := D) (tm := tm) (gf := gf) g H) (by omega)
      refine ⟨u', v', q', fun post k => ?_, fun post J n k => ?_⟩
      · refine br_f x1 (And.intro s2 (br_f x2 ?_))
        rw [xp]
        exact sr_xsh hs (by omega) hv hv2 (br_t c (nm_r (nI_1 j) (kX post k)))
      · exact br_f y1 (And.intro s2 (br_f y2 (And.intro s2 (br_f y3 (And.intro y4 (br_t (by rw [ey]; exact c) (nm_r (nI_1 (A s + j)) (kY post J n k))))))))
    · obtain ⟨u1, v1, q1, hX, hY⟩ := sr_Lhand (T := T) (D := D) (tm := tm) (gf := gf) (p := A s + j) hs (by omega) (by omega) g H
      revert hX hY
      apply sr_el q1
      intro O1 M1 t1 h1 fr1 nn1 aa1 ag1 xn1 xa1 wd1 dl1 ew1 tm1 gf1 wk1 ww1 gt1 g1 H1 hX hY
      obtain ⟨u', v', q', kX, kY⟩ := ih (j + 1) _ _ (sr_mk (T := T) (D := D) (tm := tm1) (gf := gf1) g1 H1) (by omega)
      refine ⟨u', v', q', fun post k => ?_, fun post J n k => ?_⟩
      · refine br_f x1 (And.intro s2 (br_f x2 ?_))
        rw [xp]
        exact sr_xsh hs (by omega) hv hv2 (br_f c (hX _ (nm_r (nI_1 j) (kX post k))))
      · exact br_f y1 (And.intro s2 (br_f y2 (And.intro s2 (br_f y3 (And.intro y4 (br_f (by rw [ey]; exact c) (hY _ (nm_r (nI_1 (A s + j)) (kY post J n k)))))))))
theorem sr_Ylo {s : Nat} (hs : s < 2) (hA : A s ≤ 128) {post : SY → Prop} {J : sr_Jt} {n : Nat} (k : sr_Y74 post J (nI s) n (nI (A s)) (nI L, T, D, nI C, nI w, wd, sr_i t, gt, sr_i N, sr_i A, tm, gf, wk, sr_i fr, sr_i nn, sr_i aa, sr_i ag)) :
    ∀ m j, j + m = A s → sr_Y74 post J (nI s) (n + m) (nI j) (nI L, T, D, nI C, nI w, wd, sr_i t, gt, sr_i N, sr_i A, tm, gf, wk, sr_i fr, sr_i nn, sr_i aa, sr_i ag) := by
  have s2 := sr_n2 hs
  have sc := sr_sc hs
  intro m
  induction m with
  | zero =>
    intro j hj
    have e : j = A s := by omega
    rw [e]; exact k
  | succ m ih =>
    intro j hj
    exact br_f (nI_ge (b := 128) (by omega) (by omega)) (And.intro s2 (br_t (by rw [sr_rd sc]; exact nI_lt (by omega) (by omega)) (nm_r (nI_1 j) (ih (j + 1) (by omega)))))
theorem sr_Yhi {s : Nat} (hs : s < 2) (hA : A s ≤ N s) {post : SY → Prop} {J : sr_Jt} {n : Nat} (k : sr_Y74 post J (nI s) n (nI 128) (nI L, T, D, nI C, nI w, wd, sr_i t, gt, sr_i N, sr_i A, tm, gf, wk, sr_i fr, sr_i nn, sr_i aa, sr_i ag)) :
    ∀ m j, N s ≤ j → j + m = 128 → sr_Y74 post J (nI s) (n + m) (nI j) (nI L, T, D, nI C, nI w, wd, sr_i t, gt, sr_i N, sr_i A, tm, gf, wk, sr_i fr, sr_i nn, sr_i aa, sr_i ag) := by
  have s2 := sr_n2 hs
  have sc := sr_sc hs
  intro m
  induction m with
  | zero =>
    intro j hN hj
    have e : j = 128 := by omega
    rw [e]; exact k
  | succ m ih =>
    intro j hN hj
    exact br_f (nI_ge (b := 128) (by omega) (by omega)) (And.intro s2 (br_f (by rw [sr_rd sc]; exact nI_nlt (by omega) (by omega)) (And.intro s2 (br_t (by rw [sr_rd sc]; exact nI_le (by omega) (by omega)) (nm_r (nI_1 j) (ih (j + 1) (by omega) (by omega)))))))
theorem sr_Lrun {s : Nat} (hs : s < 2) (g : sr_G L C w N O A F M t h wd dl ew gt) (H : sr_H L C w N F t wd wk fr nn aa ag xn xa ww) :
    ∃ u' v', sr_Q L T D C w N A F u' v' ∧ (∀ post : SX → Prop, post u' → wpX_runTimers post (nI L, T, D, nI C, nI w, sr_i N, sr_i O, wd, sr_i h, sr_i F, dl, ew, sr_i M, tm, gf, wk, sr_i fr, sr_i xn, sr_i xa, ww, sr_i ag) (nI s)) ∧ (∀ (post : SY → Prop) (J : sr_Jt), sr_J J (nI (s + 1)) v' → ∃ n, sr_Y74 post J (nI s) n (nI 0) (nI L, T, D, nI C, nI w, wd, sr_i t, gt, sr_i N, sr_i A, tm, gf, wk, sr_i fr, sr_i nn, sr_i aa, sr_i ag)) := by
  have s2 := sr_n2 hs
  have sc := sr_sc hs
  obtain ⟨hC, hN, hF, hO, hO4, hL, hw⟩ := sr_G4 hs g
  obtain ⟨u1, v1, q1, hX1, hY1⟩ := sr_Lloop hs (O s) 0 _ _ (sr_mk (T := T) (D := D) (tm := tm) (gf := gf) g H) (by omega)
  revert hX1 hY1
  apply sr_el q1
  intro O1 M1 t1 h1 fr1 nn1 aa1 ag1 xn1 xa1 wd1 dl1 ew1 tm1 gf1 wk1 ww1 gt1 g1 H1 hX1 hY1
  obtain ⟨u2, v2, q2, hX2, hY2⟩ := sr_Ltail (T := T) (D := D) (tm := tm1) (gf := gf1) hs g1 H1
  refine ⟨u2, v2, q2, fun post k => ?_, fun post J k => ?_⟩
  · have ef : sr_i N (nI s).toNatClampNeg - sr_i O (nI s).toNatClampNeg = nI (A s) := by
      rw [sr_rd sc, sr_rd sc, pk_sub (by omega)]; exact congrArg nI (by omega)
    refine And.intro s2 (And.intro s2 ?_)
    rw [ef]
    exact ⟨O s + 1, hX1 post (hX2 post k)⟩
  · have k1 := sr_Yhi hs (by omega) (hY2 post J 0 k) (128 - N s) (N s) (Nat.le_refl _) (by omega)
    have k2 := hY1 post J _ k1
    exact ⟨_, sr_Ylo hs (by omega) k2 (A s) 0 (by omega)⟩
end
end
section
/-! lockstep: ticks -/
def sr_X17 (post : Int32 → SX → Prop) (x1 : Int32) (n : Nat) (x2 x3 : Int32) (u : SX) : Prop := match u with
  | (f1, f2, f3, f4, f5, a1, a2, a3, a4, a5, a6, a7, a8, a9, a10, a11, a12, a13, a14, a15, a16) => wX_tick_17 post x1 n x2 x3 f1 f2 f3 f4 f5 a1 a2 a3 a4 a5 a6 a7 a8 a9 a10 a11 a12 a13 a14 a15 a16
def sr_Y15 (post : Int32 → SY → Prop) (x1 : Int32) (n : Nat) (x2 : Int32) (v : SY) : Prop := match v with
  | (f1, f2, f3, f4, f5, a1, a2, a3, a4, a5, a6, a7, a8, a9, a10, a11, a12) => wY_tick_15 post x1 n x2 f1 f2 f3 f4 f5 a1 a2 a3 a4 a5 a6 a7 a8 a9 a10 a11 a12
section
variable {L : Nat} {T : Int32} {D : Int32} {C : Nat} {w : Nat} {N : Nat → Nat} {A : Nat → Nat} {F : Nat → Nat} {O : Nat → Nat} {M : Nat → Nat} {t : Nat → Nat} {h : Nat → Nat} {fr : Nat → Nat} {nn : Nat → Nat} {aa : Nat → Nat} {ag : Nat → Nat} {xn : Nat → Nat} {xa : Nat → Nat} {wd : Nat → Int32} {dl : Nat → Int32} {ew : Nat → Int32} {tm : Nat → Int32} {gf : Nat → Int32} {wk : Nat → Int32} {ww : Nat → Int32} {gt : Nat → Int32}
theorem sr_Hag (H : sr_H L C w N F t wd wk fr nn aa ag xn xa ww) : ∀ i, i < C → wk i ≠ 0 → ag i ≤ L := fun i hi hk =>
  ((H i hi hk).2 (1 - fr i) (by have := (H i hi hk).1; omega)).1
end
theorem sr_Ltick {L : Nat} {T D : Int32} {C : Nat} {N A F : Nat → Nat} {n : Nat} (hn : n ≤ 16) : ∀ m j w (u : SX) (v : SY), j + m = n → sr_Q L T D C w N A F u v →
    ∃ r w' u' v', sr_Q L T D C w' N A F u' v' ∧ (∀ post : Int32 → SX → Prop, post r u' → sr_X17 post (nI n) (m + 1) (nI j) (nI j) u) ∧
      (∀ post : Int32 → SY → Prop, post r v' → sr_Y15 post (nI n) (m + 1) (nI j) v) := by
  intro m
  induction m with
  | zero =>
    intro j w u v hj q
    have e : j = n := by omega
    subst e
    apply sr_el q
    intro O M t h fr nn aa ag xn xa wd dl ew tm gf wk ww gt g H
    exact ⟨nI j, w, (nI L, T, D, nI C, nI w, sr_i N, sr_i O, wd, sr_i h, sr_i F, dl, ew, sr_i M, tm, gf, wk, sr_i fr, sr_i xn, sr_i xa, ww, sr_i ag), (nI L, T, D, nI C, nI w, wd, sr_i t, gt, sr_i N, sr_i A, tm, gf, wk, sr_i fr, sr_i nn, sr_i aa, sr_i ag), sr_mk g H, fun post k => br_t (nI_le (Nat.le_refl _) (by omega)) k, fun post k => br_t (nI_le (Nat.le_refl _) (by omega)) k⟩
  | succ m ih =>
    intro j w u v hj q
    apply sr_el q
    intro O M t h fr nn aa ag xn xa wd dl ew tm gf wk ww gt g H
    obtain ⟨hC, hN, hF, hO, hO4, hL, hw⟩ := sr_G4 (s := 0) (by omega) g
    have hc : ¬ nI n ≤ nI j := nI_ge (by omega) (by omega)
    by_cases z : w < 20000
    · have zX : ¬ (20000 : Int32) ≤ nI w := nI_ge (b := 20000) z (by omega)
      have zY : nI w < (20000 : Int32) := nI_lt (b := 20000) z (by omega)
      have hag := sr_Hag H
      obtain ⟨u1, v1, q1, hX1, hY1⟩ := sr_Lrun (s := 0) (T := T) (D := D) (tm := tm) (gf := gf) (by omega) (sr_Gtick z g) (sr_Htick H)
      revert hX1 hY1
      apply sr_el q1
      intro O1 M1 t1 h1 fr1 nn1 aa1 ag1 xn1 xa1 wd1 dl1 ew1 tm1 gf1 wk1 ww1 gt1 g1 H1 hX1 hY1
      obtain ⟨u2, v2, q2, hX2, hY2⟩ := sr_Lrun (s := 1) (T := T) (D := D) (tm := tm1) (gf := gf1) (by omega) g1 H1
      revert hX2 hY2
      apply sr_el q2
      intro O2 M2 t2 h2 fr2 nn2 aa2 ag2 xn2 xa2 wd2 dl2 ew2 tm2 gf2 wk2 ww2 gt2 g2 H2 hX2 hY2
      obtain ⟨r, w', u', v', q', kX, kY⟩ := ih (j + 1) (w + 1) _ _ (by omega) (sr_mk (T := T) (D := D) (tm := tm2) (gf := gf2) g2 H2)
      refine ⟨r, w', u', v', q', fun post k => ?_, fun post k => ?_⟩
      · refine br_f hc (br_f zX (nm_r (nI_1 w) ?_))
        refine sr_xageW (w := w + 1) hC hL hag ?_
        refine hX1 _ ?_
        refine hX2 _ ?_
        exact nm_r (nI_1 j) (nm_r (nI_1 j) (kX post k))
      · refine br_f hc (br_t zY ?_)
        refine sr_yageW hC hL hag ⟨3, br_f (by decide) ?_⟩
        refine hY1 _ (wY_oneTick_67 _ 2) ?_
        refine br_f (nI_ge (a := 1) (b := 2) (by omega) (by omega)) ?_
        refine hY2 _ (wY_oneTick_67 _ 1) ?_
        refine br_t (nI_le (a := 2) (b := 2) (by omega) (by omega)) ?_
        exact nm_r (nI_1 j) (kY post k)
    · have zX : (20000 : Int32) ≤ nI w := nI_le (a := 20000) (by omega) (by omega)
      have zY : ¬ nI w < (20000 : Int32) := nI_nlt (b := 20000) (by omega) (by omega)
      exact ⟨nI j, w, (nI L, T, D, nI C, nI w, sr_i N, sr_i O, wd, sr_i h, sr_i F, dl, ew, sr_i M, tm, gf, wk, sr_i fr, sr_i xn, sr_i xa, ww, sr_i ag), (nI L, T, D, nI C, nI w, wd, sr_i t, gt, sr_i N, sr_i A, tm, gf, wk, sr_i fr, sr_i nn, sr_i aa, sr_i ag), sr_mk g H, fun post k => br_f hc (br_t zX k), fun post k => br_f hc (br_f zY k)⟩
end
section
/-! lockstep: an arrival -/
section
variable {L : Nat} {T : Int32} {D : Int32} {C : Nat} {w : Nat} {N : Nat → Nat} {A : Nat → Nat} {F : Nat → Nat} {O : Nat → Nat} {M : Nat → Nat} {t : Nat → Nat} {h : Nat → Nat} {fr : Nat → Nat} {nn : Nat → Nat} {aa : Nat → Nat} {ag : Nat → Nat} {xn : Nat → Nat} {xa : Nat → Nat} {wd : Nat → Int32} {dl : Nat → Int32} {ew : Nat → Int32} {tm : Nat → Int32} {gf : Nat → Int32} {wk : Nat → Int32} {ww : Nat → Int32} {gt : Nat → Int32}
theorem sr_Mbit {s d n : Nat} (e : s + d = 1) (h1 : F d ≤ n) (h2 : n < N s) (g : sr_G L C w N O A F M t h wd dl ew gt) : M d < 16 ∧ M d / 2 ^ (n - F d) % 2 = sr_q gt d n := by
  obtain ⟨⟨a1, a2, a3, a4, a5⟩, b1, b2, b3, b4, b5⟩ := sr_Gn e g
  obtain ⟨-, -, r1, r2, r3, r4, r5, r6⟩ := g.2.2.2 d s (by omega)
  have q0 : sr_q gt d (F d) = 0 := sr_q0 r3
  have q1 := sr_qle gt d (F d + 1)
  have q2 := sr_qle gt d (F d + 2)
  have q3 := sr_qle gt d (F d + 3)
  refine ⟨by omega, ?_⟩
  have hc : n = F d ∨ n = F d + 1 ∨ n = F d + 2 ∨ n = F d + 3 := by omega
  rcases hc with rfl | rfl | rfl | rfl
  · rw [q0, Nat.sub_self]; omega
  · rw [show F d + 1 - F d = 1 by omega]; omega
  · rw [show F d + 2 - F d = 2 by omega]; omega
  · rw [show F d + 3 - F d = 3 by omega]; omega
theorem sr_x46 {post : Int32 → SX → Prop} {d : Nat} (hd : d < 2) (k : post 3 (nI L, T, D, nI C, nI w, sr_i N, sr_i O, wd, sr_i h, sr_i F, dl, ew, sr_i M, sr_st tm d D, gf, wk, sr_i fr, sr_i xn, sr_i xa, ww, sr_i ag)) : wX_takeData_46 post (nI d) (nI L) T D (nI C) (nI w) (sr_i N) (sr_i O) wd (sr_i h) (sr_i F) dl ew (sr_i M) tm gf wk (sr_i fr) (sr_i xn) (sr_i xa) ww (sr_i ag) := by
  unfold wX_takeData_46
  refine sr_xst hd ?_
  exact k
theorem sr_y26 {post : Int32 → SY → Prop} {d : Nat} (hd : d < 2) (k : post 3 (nI L, T, D, nI C, nI w, wd, sr_i t, gt, sr_i N, sr_i A, sr_st tm d D, gf, wk, sr_i fr, sr_i nn, sr_i aa, sr_i ag)) : wY_arriveData_26 post (nI d) (nI L) T D (nI C) (nI w) wd (sr_i t) gt (sr_i N) (sr_i A) tm gf wk (sr_i fr) (sr_i nn) (sr_i aa) (sr_i ag) := by
  unfold wY_arriveData_26
  refine sr_yst hd ?_
  exact k
theorem sr_Ltake {s d n : Nat} (e : s + d = 1) (h1 : n < N s) (h2 : N s ≤ n + 12) (hw : w ≤ t (s * 128 + n) + L) (g : sr_G L C w N O A F M t h wd dl ew gt) (H : sr_H L C w N F t wd wk fr nn aa ag xn xa ww) :
    ∃ r F' u' v', (∀ j, j ≠ d → F' j = F j) ∧ sr_Q L T D C w N A F' u' v' ∧ (∀ post : Int32 → SX → Prop, post r u' → wpX_takeData post (nI L, T, D, nI C, nI w, sr_i N, sr_i O, wd, sr_i h, sr_i F, dl, ew, sr_i M, tm, gf, wk, sr_i fr, sr_i xn, sr_i xa, ww, sr_i ag) (nI d) (nI (n % 16)) (wd (s * 128 + n))) ∧
      (∀ post : Int32 → SY → Prop, post r v' → wpY_arriveData post (nI L, T, D, nI C, nI w, wd, sr_i t, gt, sr_i N, sr_i A, tm, gf, wk, sr_i fr, sr_i nn, sr_i aa, sr_i ag) (nI d) (nI n)) := by
  have hd : d < 2 := by omega
  have d2 := sr_n2 hd
  have dc := sr_sc hd
  obtain ⟨⟨a1, a2, a3, a4, a5⟩, b1, b2, b3, b4, b5⟩ := sr_Gn e g
  have fm := sr_GF hd g
  have n8 : n < 128 := by omega
  have eo : (nI (n % 16) - sr_i F (nI d).toNatClampNeg) &&& 15 = nI ((n % 16 + 15 * F d) % 16) := by
    rw [sr_rd dc]; exact sr_d15 (by omega) (by omega)
  by_cases c1 : n < F d
  · have hoff : 4 ≤ (n % 16 + 15 * F d) % 16 := by omega
    refine ⟨3, F, (nI L, T, D, nI C, nI w, sr_i N, sr_i O, wd, sr_i h, sr_i F, dl, ew, sr_i M, sr_st tm d D, gf, wk, sr_i fr, sr_i xn, sr_i xa, ww, sr_i ag), (nI L, T, D, nI C, nI w, wd, sr_i t, gt, sr_i N, sr_i A, sr_st tm d D, gf, wk, sr_i fr, sr_i nn, sr_i aa, sr_i ag), fun _ _ => rfl, sr_mk g H, fun post k => ?_, fun post k => ?_⟩
    · refine And.intro d2 ?_
      refine sr_x4 eo ?_
      refine br_t (nI_le (a := 4) hoff (by omega)) ?_
      exact br_t rfl (sr_x46 hd k)
    · unfold wpY_arriveData
      refine sr_yfm hd fm ?_
      exact br_t (nI_lt c1 (by omega)) (sr_y26 hd k)
  · have hoff : (n % 16 + 15 * F d) % 16 = n - F d := by omega
    rw [hoff] at eo
    obtain ⟨hm, hb⟩ := sr_Mbit e (by omega) h1 g
    have em : sr_i M (nI d).toNatClampNeg = nI (M d) := sr_rd dc
    have ek := sr_k128 hd n8
    have k8 := sr_n128 hd n8
    have y1 : ¬ nI n < nI (F d) := nI_nlt (by omega) (by omega)
    have x1 : ¬ (4 : Int32) ≤ nI (n - F d) := nI_ge (b := 4) (by omega) (by omega)
    have x10 : ¬ (1 : Int32) = 0 := by decide
    by_cases c2 : gt (d * 128 + n) = 0
    · have hb0 : M d / 2 ^ (n - F d) % 2 = 0 := by rw [hb]; exact sr_q0 (fun _ => c2)
      have xb : (sr_i M (nI d).toNatClampNeg &&& ((1 : Int32) <<< (nI (n - F d) &&& 31))) = 0 := by rw [em]; exact (sr_mb _ hm _ (by omega)).mpr hb0
      have hm4 : n % 4 < 4 := Nat.mod_lt _ (by decide)
      have ea : nI (n % 16) &&& 3 = nI (n % 4) := by rw [sr_a3 (by omega)]; exact congrArg nI (by omega)
      have e0 : vp_in (nI d * 4 + (nI (n % 16) &&& 3)) 8 := by rw [ea]; exact sr_n4 hd hm4
      have e1 : upd ew (nI d * 4 + (nI (n % 16) &&& 3)).toNatClampNeg (wd (s * 128 + n)) = upd ew (d * 4 + n % 4) (wd (s * 128 + n)) := by rw [ea, sr_k4 hd hm4]
      have e2 : upd (sr_i M) (nI d).toNatClampNeg (sr_i M (nI d).toNatClampNeg ||| ((1 : Int32) <<< (nI (n - F d) &&& 31))) = sr_i (sr_u M d (M d + 2 ^ (n - F d))) := by
        rw [em, sr_mo _ hm _ (by omega) hb0, sr_ui dc]
      have e3 : upd gt (nI d * 128 + nI n).toNatClampNeg (vp_nar .boolean 1) = upd gt (d * 128 + n) 1 := by rw [ek]; rfl
      have y2 : gt (nI d * 128 + nI n).toNatClampNeg = 0 := by rw [ek]; exact c2
      by_cases c3 : n = F d
      · subst c3
        have e20 := e2.trans (show sr_i (sr_u M d (M d + 2 ^ (F d - F d))) = sr_i (sr_u M d (M d + 2 ^ 0)) by rw [Nat.sub_self])
        have x40 : nI (F d - F d) = 0 := by rw [Nat.sub_self]; rfl
        obtain ⟨F', M', dl', k1, k2, k3, k4, k5, k6, k7⟩ := sr_xpass (L := L) (T := T) (D := D) (C := C) (w := w) (O := O) (h := h) (fr := fr) (xn := xn) (xa := xa) (ag := ag) (tm := tm) (gf := gf) (wk := wk) (ww := ww) (f0 := F d) e (sr_gt1 e h1 g) (by omega) 4 0 F (sr_u M d (M d + 2 ^ 0)) dl (by omega) (by omega) (sr_B0 e h1 g)
        refine ⟨1, F', (nI L, T, D, nI C, nI w, sr_i N, sr_i O, wd, sr_i h, sr_i F', dl', upd ew (d * 4 + F d % 4) (wd (s * 128 + F d)), sr_i M', sr_st tm d D, upd gf d 0, wk, sr_i fr, sr_i xn, sr_i xa, ww, sr_i ag), (nI L, T, D, nI C, nI w, wd, sr_i t, upd gt (d * 128 + F d) 1, sr_i N, sr_i A, sr_st tm d D, upd gf d 0, wk, sr_i fr, sr_i nn, sr_i aa, sr_i ag), k1, ?_, fun post k => ?_, fun post k => ?_⟩
        · exact sr_mk (sr_Gpass e h1 g k1 (fun j hj => (k2 j hj).trans (sr_un hj)) k3 k4 k5 k6) (sr_Hpass e hw k1 k4 H)
        · refine And.intro d2 ?_
          refine sr_x4 eo ?_
          refine br_f x1 (br_f x10 (And.intro d2 (br_t xb (And.intro e0 (nm_r e1 (And.intro d2 (And.intro d2 (nm_r e20 (br_t x40 ?_)))))))))
          refine ⟨5, k7 _ ?_⟩
          refine And.intro d2 (nm_r (sr_ur dc) ?_)
          refine sr_xst hd ?_
          exact k
        · unfold wpY_arriveData
          refine sr_yfm hd fm ?_
          refine br_f y1 (And.intro k8 (br_t y2 (And.intro k8 (nm_r e3 (br_t rfl (And.intro d2 (nm_r (sr_ur dc) ?_)))))))
          refine sr_yst hd ?_
          exact k
      · have gE := sr_Gearly e (by omega) h1 c2 g
        have x40 : ¬ nI (n - F d) = 0 := nI_ne0 (by omega) (by omega)
        have y3 : ¬ nI n = nI (F d) := fun z => c3 ((nI_eq (by omega) (by omega)).mp z)
        by_cases c4 : gf d = 0
        · obtain ⟨u1, v1, q1, hX, hY⟩ := sr_Lnak (T := T) (D := D) (tm := tm) (gf := gf) hd gE H
          revert hX hY
          apply sr_el q1
          intro O1 M1 t1 h1 fr1 nn1 aa1 ag1 xn1 xa1 wd1 dl1 ew1 tm1 gf1 wk1 ww1 gt1 g1 H1 hX hY
          refine ⟨2, F, (nI L, T, D, nI C, nI w, sr_i N, sr_i O1, wd1, sr_i h1, sr_i F, dl1, ew1, sr_i M1, tm1, gf1, wk1, sr_i fr1, sr_i xn1, sr_i xa1, ww1, sr_i ag1), (nI L, T, D, nI C, nI w, wd1, sr_i t1, gt1, sr_i N, sr_i A, tm1, gf1, wk1, sr_i fr1, sr_i nn1, sr_i aa1, sr_i ag1), fun _ _ => rfl, sr_mk g1 H1, fun post k => ?_, fun post k => ?_⟩
          · refine And.intro d2 ?_
            refine sr_x4 eo ?_
            refine br_f x1 (br_f x10 (And.intro d2 (br_t xb (And.intro e0 (nm_r e1 (And.intro d2 (And.intro d2 (nm_r e2 (br_f x40 (And.intro d2 (br_t (by rw [nI_clamp dc]; exact c4) ?_)))))))))))
            exact hX _ k
          · unfold wpY_arriveData
            refine sr_yfm hd fm ?_
            refine br_f y1 (And.intro k8 (br_t y2 (And.intro k8 (nm_r e3 (br_f y3 (And.intro d2 (br_t (by rw [nI_clamp dc]; exact c4) ?_)))))))
            exact hY _ k
        · refine ⟨2, F, (nI L, T, D, nI C, nI w, sr_i N, sr_i O, wd, sr_i h, sr_i F, dl, upd ew (d * 4 + n % 4) (wd (s * 128 + n)), sr_i (sr_u M d (M d + 2 ^ (n - F d))), sr_st tm d D, gf, wk, sr_i fr, sr_i xn, sr_i xa, ww, sr_i ag), (nI L, T, D, nI C, nI w, wd, sr_i t, upd gt (d * 128 + n) 1, sr_i N, sr_i A, sr_st tm d D, gf, wk, sr_i fr, sr_i nn, sr_i aa, sr_i ag), fun _ _ => rfl, sr_mk gE H, fun post k => ?_, fun post k => ?_⟩
          · refine And.intro d2 ?_
            refine sr_x4 eo ?_
            refine br_f x1 (br_f x10 (And.intro d2 (br_t xb (And.intro e0 (nm_r e1 (And.intro d2 (And.intro d2 (nm_r e2 (br_f x40 (And.intro d2 (br_f (by rw [nI_clamp dc]; exact c4) ?_)))))))))))
            refine sr_xst hd ?_
            exact k
          · unfold wpY_arriveData
            refine sr_yfm hd fm ?_
            refine br_f y1 (And.intro k8 (br_t y2 (And.intro k8 (nm_r e3 (br_f y3 (And.intro d2 (br_f (by rw [nI_clamp dc]; exact c4) ?_)))))))
            refine sr_yst hd ?_
            exact k
    · have hb1 : sr_q gt d n = 1 := sr_q1 n8 c2
      have xb : ¬ (sr_i M (nI d).toNatClampNeg &&& ((1 : Int32) <<< (nI (n - F d) &&& 31))) = 0 := by
        rw [em]; intro z
        have := (sr_mb _ hm _ (by omega)).mp z
        omega
      have y2 : ¬ gt (nI d * 128 + nI n).toNatClampNeg = 0 := by rw [ek]; exact c2
      refine ⟨3, F, (nI L, T, D, nI C, nI w, sr_i N, sr_i O, wd, sr_i h, sr_i F, dl, ew, sr_i M, sr_st tm d D, gf, wk, sr_i fr, sr_i xn, sr_i xa, ww, sr_i ag), (nI L, T, D, nI C, nI w, wd, sr_i t, gt, sr_i N, sr_i A, sr_st tm d D, gf, wk, sr_i fr, sr_i nn, sr_i aa, sr_i ag), fun _ _ => rfl, sr_mk g H, fun post k => ?_, fun post k => ?_⟩
      · refine And.intro d2 ?_
        refine sr_x4 eo ?_
        refine br_f x1 (br_f x10 (And.intro d2 (br_f xb ?_)))
        exact sr_x46 hd k
      · unfold wpY_arriveData
        refine sr_yfm hd fm ?_
        exact br_f y1 (And.intro k8 (br_f y2 (sr_y26 hd k)))
theorem sr_Ltack {s d a : Nat} (e : s + d = 1) (h1 : a ≤ F s) (h2 : N d ≤ a + 12) (g : sr_G L C w N O A F M t h wd dl ew gt) :
    ∃ b A' O', (b = 0 ∨ b = 1) ∧ a ≤ A' d ∧ sr_G L C w N O' A' F M t h wd dl ew gt ∧ (∀ post : Int32 → SX → Prop, post b (nI L, T, D, nI C, nI w, sr_i N, sr_i O', wd, sr_i h, sr_i F, dl, ew, sr_i M, tm, gf, wk, sr_i fr, sr_i xn, sr_i xa, ww, sr_i ag) → wpX_takeAck post (nI L, T, D, nI C, nI w, sr_i N, sr_i O, wd, sr_i h, sr_i F, dl, ew, sr_i M, tm, gf, wk, sr_i fr, sr_i xn, sr_i xa, ww, sr_i ag) (nI d) (nI (a % 16))) ∧
      (∀ (post : Int32 → SY → Prop) x3 x6, wY_arrive_88 post (nI d) x3 (nI a) x6 b (nI L) T D (nI C) (nI w) wd (sr_i t) gt (sr_i N) (sr_i A') tm gf wk (sr_i fr) (sr_i nn) (sr_i aa) (sr_i ag) → wY_arrive_57 post (nI d) x3 (nI a) x6 (nI L) T D (nI C) (nI w) wd (sr_i t) gt (sr_i N) (sr_i A) tm gf wk (sr_i fr) (sr_i nn) (sr_i aa) (sr_i ag)) := by
  have hd : d < 2 := by omega
  have d2 := sr_n2 hd
  have dc := sr_sc hd
  obtain ⟨⟨a1, a2, a3, a4, a5⟩, b1, b2, b3, b4, b5⟩ := sr_Gn e g
  have eo : (sr_i N (nI d).toNatClampNeg - nI (a % 16)) &&& 15 = nI (N d - a) := by
    rw [sr_rd dc, sr_d15 (by omega) (by omega)]; exact congrArg nI (by omega)
  by_cases c : a ≤ A d
  · refine ⟨0, A, O, Or.inl rfl, c, g, fun post k => ?_, fun post x3 x6 k => ?_⟩
    · refine And.intro d2 ?_
      refine sr_x4 eo ?_
      exact And.intro d2 (br_t (by rw [sr_rd dc]; exact nI_le (by omega) (by omega)) k)
    · exact And.intro d2 (br_t (by rw [sr_rd dc]; exact nI_le (by omega) (by omega)) (br_t rfl k))
  · refine ⟨1, sr_u A d a, sr_u O d (N d - a), Or.inr rfl, by rw [sr_us]; omega, sr_Gack e (by omega) h1 g, fun post k => ?_, fun post x3 x6 k => ?_⟩
    · refine And.intro d2 ?_
      refine sr_x4 eo ?_
      exact And.intro d2 (br_f (by rw [sr_rd dc]; exact nI_ge (by omega) (by omega)) (And.intro d2 (nm_r (sr_ui dc) k)))
    · exact And.intro d2 (br_f (by rw [sr_rd dc]; exact nI_ge (by omega) (by omega)) (br_f (by decide) (And.intro d2 (nm_r (sr_ui dc) k))))
theorem sr_xask {post : Int32 → Prop} {s d a : Nat} (e : s + d = 1) (h1 : a ≤ F s) (h2 : N d ≤ a + 12) (h3 : a ≤ A d) (g : sr_G L C w N O A F M t h wd dl ew gt) {b : Int32} (hb1 : a = A d ∧ A d < N d → b = 1) (hb0 : ¬ (a = A d ∧ A d < N d) → b = 0) (k : post b) :
    wpX_asksForFirst post (nI L, T, D, nI C, nI w, sr_i N, sr_i O, wd, sr_i h, sr_i F, dl, ew, sr_i M, tm, gf, wk, sr_i fr, sr_i xn, sr_i xa, ww, sr_i ag) (nI d) (nI (a % 16)) := by
  have hd : d < 2 := by omega
  have d2 := sr_n2 hd
  have dc := sr_sc hd
  obtain ⟨⟨a1, a2, a3, a4, a5⟩, b1, b2, b3, b4, b5⟩ := sr_Gn e g
  have eo : (sr_i N (nI d).toNatClampNeg - nI (a % 16)) &&& 15 = nI (N d - a) := by
    rw [sr_rd dc, sr_d15 (by omega) (by omega)]; exact congrArg nI (by omega)
  refine And.intro d2 ?_
  refine sr_x4 eo ?_
  refine And.intro d2 ?_
  by_cases z : O d = 0
  · rw [hb0 (by omega)] at k
    exact br_t (by rw [sr_rd dc, z]; decide) k
  · refine br_f (by rw [sr_rd dc]; exact nI_nle (by omega) (by omega)) (And.intro d2 ?_)
    by_cases y : a = A d
    · rw [hb1 ⟨y, by omega⟩] at k
      exact br_t (by rw [sr_rd dc]; exact congrArg nI (by omega)) k
    · rw [hb0 (fun q => y q.1)] at k
      exact br_f (by rw [sr_rd dc]; exact fun q => by have := (nI_eq (by omega) (by omega)).mp q; omega) k
end
end
section
/-! lockstep: a whole arrival, all arrivals at a station -/
section
variable {L : Nat} {T : Int32} {D : Int32} {C : Nat} {w : Nat} {N : Nat → Nat} {A : Nat → Nat} {F : Nat → Nat} {O : Nat → Nat} {M : Nat → Nat} {t : Nat → Nat} {h : Nat → Nat} {fr : Nat → Nat} {nn : Nat → Nat} {aa : Nat → Nat} {ag : Nat → Nat} {xn : Nat → Nat} {xa : Nat → Nat} {wd : Nat → Int32} {dl : Nat → Int32} {ew : Nat → Int32} {tm : Nat → Int32} {gf : Nat → Int32} {wk : Nat → Int32} {ww : Nat → Int32} {gt : Nat → Int32}
theorem sr_Larr {i : Nat} (hi : i < C) (hk : wk i ≠ 0) (g : sr_G L C w N O A F M t h wd dl ew gt) (H : sr_H L C w N F t wd wk fr nn aa ag xn xa ww) :
    ∃ r A' F' u' v', sr_Q L T D C w N A' F' u' v' ∧ (∀ post : Int32 → SX → Prop, post r u' → wpX_arrive post (nI L, T, D, nI C, nI w, sr_i N, sr_i O, wd, sr_i h, sr_i F, dl, ew, sr_i M, tm, gf, wk, sr_i fr, sr_i xn, sr_i xa, ww, sr_i ag) (nI i)) ∧ (∀ post : Int32 → SY → Prop, post r v' → wpY_arrive post (nI L, T, D, nI C, nI w, wd, sr_i t, gt, sr_i N, sr_i A, tm, gf, wk, sr_i fr, sr_i nn, sr_i aa, sr_i ag) (nI i)) := by
  have hC := g.2.1
  have ic := sr_ic hi hC
  have i24 := sr_n24 hi hC
  obtain ⟨hs, hP⟩ := H i hi hk
  obtain ⟨d, e⟩ : ∃ d, fr i + d = 1 := ⟨1 - fr i, by omega⟩
  obtain ⟨p1, p2, p3, p4, p5, p6⟩ := hP d e
  have hd : d < 2 := by omega
  have d2 := sr_n2 hd
  have dc := sr_sc hd
  have e1 : (1 : Int32) - sr_i fr (nI i).toNatClampNeg = nI d := by
    rw [sr_rd ic]
    show nI 1 - nI (fr i) = nI d
    rw [pk_sub (by omega)]
    exact congrArg nI (by omega)
  have e2 : wk (nI i).toNatClampNeg = wk i := sr_rr ic
  have e3 : sr_i xa (nI i).toNatClampNeg = nI (aa i % 16) := by rw [sr_rd ic, p2]
  have e4 : sr_i aa (nI i).toNatClampNeg = nI (aa i) := sr_rd ic
  have e5 : sr_i nn (nI i).toNatClampNeg = nI (nn i) := sr_rd ic
  have e6 : upd wk (nI i).toNatClampNeg 0 = upd wk i 0 := sr_ur ic
  have H0 := sr_Hoff (i := i) H
  by_cases k1 : wk i = 1
  · obtain ⟨q1, q2, q3, q4, q5⟩ := p6 k1
    have e7 : sr_i xn (nI i).toNatClampNeg = nI (nn i % 16) := by rw [sr_rd ic, q1]
    have e8 : ww (nI i).toNatClampNeg = wd (fr i * 128 + nn i) := by rw [nI_clamp ic]; exact q5
    obtain ⟨r, F', u1, v1, hF, q, hX, hY⟩ := sr_Ltake (T := T) (D := D) (tm := tm) (gf := gf) e q2 q3 (by omega) g H0
    revert hX hY
    apply sr_el q
    intro O1 M1 t1 h1 fr1 nn1 aa1 ag1 xn1 xa1 wd1 dl1 ew1 tm1 gf1 wk1 ww1 gt1 g1 H1 hX hY
    obtain ⟨b, A', O', hb, ha, g2, hX2, hY2⟩ := sr_Ltack (T := T) (D := D) (tm := tm1) (gf := gf1) (wk := wk1) (fr := fr1) (nn := nn1) (aa := aa1) (ag := ag1) (xn := xn1) (xa := xa1) (ww := ww1) e (by rw [hF _ (by omega)]; exact p3) p4 g1
    refine ⟨r, A', F', (nI L, T, D, nI C, nI w, sr_i N, sr_i O', wd1, sr_i h1, sr_i F', dl1, ew1, sr_i M1, tm1, gf1, wk1, sr_i fr1, sr_i xn1, sr_i xa1, ww1, sr_i ag1), (nI L, T, D, nI C, nI w, wd1, sr_i t1, gt1, sr_i N, sr_i A', tm1, gf1, wk1, sr_i fr1, sr_i nn1, sr_i aa1, sr_i ag1), sr_mk g2 H1, fun post k => ?_, fun post k => ?_⟩
    · refine And.intro i24 (nm_r e1 (And.intro i24 (nm_r e2 (And.intro i24 (nm_r e3 (And.intro i24 (nm_r e7 (And.intro i24 (nm_r e8 (And.intro i24 (nm_r e6 (br_t k1 ?_))))))))))))
      refine hX _ ?_
      refine hX2 _ ?_
      exact k
    · refine And.intro i24 (nm_r e1 (And.intro i24 (nm_r e2 (And.intro i24 (nm_r e5 (And.intro i24 (nm_r e4 (And.intro i24 (nm_r e6 (br_t k1 ?_))))))))))
      refine hY _ ?_
      refine hY2 _ _ _ ?_
      exact br_t k1 k
  · obtain ⟨b, A', O', hb, ha, g2, hX2, hY2⟩ := sr_Ltack (T := T) (D := D) (tm := tm) (gf := gf) (wk := upd wk i 0) (fr := fr) (nn := nn) (aa := aa) (ag := ag) (xn := xn) (xa := xa) (ww := ww) e p3 p4 g
    obtain ⟨⟨a1, a2, a3, a4, a5⟩, b1, b2, b3, b4, b5⟩ := sr_Gn e g2
    by_cases k3 : wk i = 3
    · by_cases c : aa i = A' d ∧ A' d < N d
      · obtain ⟨u1, v1, q, hX, hY⟩ := sr_Lhand (T := T) (D := D) (tm := tm) (gf := gf) (p := aa i) hd (by omega) (by omega) g2 H0
        revert hX hY
        apply sr_el q
        intro O1 M1 t1 h1 fr1 nn1 aa1 ag1 xn1 xa1 wd1 dl1 ew1 tm1 gf1 wk1 ww1 gt1 g1 H1 hX hY
        refine ⟨5, A', F, (nI L, T, D, nI C, nI w, sr_i N, sr_i O1, wd1, sr_i h1, sr_i F, dl1, ew1, sr_i M1, tm1, gf1, wk1, sr_i fr1, sr_i xn1, sr_i xa1, ww1, sr_i ag1), (nI L, T, D, nI C, nI w, wd1, sr_i t1, gt1, sr_i N, sr_i A', tm1, gf1, wk1, sr_i fr1, sr_i nn1, sr_i aa1, sr_i ag1), sr_mk g1 H1, fun post k => ?_, fun post k => ?_⟩
        · refine And.intro i24 (nm_r e1 (And.intro i24 (nm_r e2 (And.intro i24 (nm_r e3 (And.intro i24 (nm_e (And.intro i24 (nm_e (And.intro i24 (nm_r e6 (br_f k1 ?_))))))))))))
          refine hX2 _ ?_
          refine br_t k3 ?_
          refine sr_xask (b := 1) e p3 p4 ha g2 (fun _ => rfl) (fun z => absurd c z) ?_
          refine br_f (by decide) (And.intro d2 (And.intro d2 ?_))
          have ef : sr_i N (nI d).toNatClampNeg - sr_i O' (nI d).toNatClampNeg = nI (aa i) := by
            rw [sr_rd dc, sr_rd dc, pk_sub (by omega)]; exact congrArg nI (by omega)
          rw [ef]
          exact hX _ k
        · refine And.intro i24 (nm_r e1 (And.intro i24 (nm_r e2 (And.intro i24 (nm_r e5 (And.intro i24 (nm_r e4 (And.intro i24 (nm_r e6 (br_f k1 ?_))))))))))
          refine hY2 _ _ _ ?_
          refine br_f k1 (br_t k3 (And.intro d2 (br_t (by rw [sr_rd dc, ← c.1]) (And.intro d2 (And.intro d2 (br_f (by rw [sr_rd dc, sr_rd dc]; exact nI_ge (by omega) (by omega)) ?_))))))
          exact hY _ k
      · have yE : ∀ (post : Int32 → SY → Prop) (x6 : Int32), wY_arrive_137 post b (nI L) T D (nI C) (nI w) wd (sr_i t) gt (sr_i N) (sr_i A') tm gf (upd wk i 0) (sr_i fr) (sr_i nn) (sr_i aa) (sr_i ag) → wY_arrive_88 post (nI d) (wk i) (nI (aa i)) x6 b (nI L) T D (nI C) (nI w) wd (sr_i t) gt (sr_i N) (sr_i A') tm gf (upd wk i 0) (sr_i fr) (sr_i nn) (sr_i aa) (sr_i ag) := by
          intro post x6 k
          refine br_f k1 (br_t k3 (And.intro d2 ?_))
          by_cases y : aa i = A' d
          · exact br_t (by rw [sr_rd dc, y]) (And.intro d2 (And.intro d2 (br_t (by rw [sr_rd dc, sr_rd dc]; exact nI_le (by omega) (by omega)) k)))
          · exact br_f (by rw [sr_rd dc]; exact fun z => y ((nI_eq (by omega) (by omega)).mp z)) k
        rcases hb with hb | hb
        · refine ⟨6, A', F, (nI L, T, D, nI C, nI w, sr_i N, sr_i O', wd, sr_i h, sr_i F, dl, ew, sr_i M, tm, gf, upd wk i 0, sr_i fr, sr_i xn, sr_i xa, ww, sr_i ag), (nI L, T, D, nI C, nI w, wd, sr_i t, gt, sr_i N, sr_i A', tm, gf, upd wk i 0, sr_i fr, sr_i nn, sr_i aa, sr_i ag), sr_mk g2 H0, fun post k => ?_, fun post k => ?_⟩
          · refine And.intro i24 (nm_r e1 (And.intro i24 (nm_r e2 (And.intro i24 (nm_r e3 (And.intro i24 (nm_e (And.intro i24 (nm_e (And.intro i24 (nm_r e6 (br_f k1 ?_))))))))))))
            refine hX2 _ ?_
            refine br_t k3 ?_
            refine sr_xask (b := 0) e p3 p4 ha g2 (fun z => absurd z c) (fun _ => rfl) ?_
            exact br_t rfl (br_t hb k)
          · refine And.intro i24 (nm_r e1 (And.intro i24 (nm_r e2 (And.intro i24 (nm_r e5 (And.intro i24 (nm_r e4 (And.intro i24 (nm_r e6 (br_f k1 ?_))))))))))
            refine hY2 _ _ _ ?_
            exact yE _ _ (br_t hb k)
        · refine ⟨4, A', F, (nI L, T, D, nI C, nI w, sr_i N, sr_i O', wd, sr_i h, sr_i F, dl, ew, sr_i M, tm, gf, upd wk i 0, sr_i fr, sr_i xn, sr_i xa, ww, sr_i ag), (nI L, T, D, nI C, nI w, wd, sr_i t, gt, sr_i N, sr_i A', tm, gf, upd wk i 0, sr_i fr, sr_i nn, sr_i aa, sr_i ag), sr_mk g2 H0, fun post k => ?_, fun post k => ?_⟩
          · refine And.intro i24 (nm_r e1 (And.intro i24 (nm_r e2 (And.intro i24 (nm_r e3 (And.intro i24 (nm_e (And.intro i24 (nm_e (And.intro i24 (nm_r e6 (br_f k1 ?_))))))))))))
            refine hX2 _ ?_
            refine br_t k3 ?_
            refine sr_xask (b := 0) e p3 p4 ha g2 (fun z => absurd z c) (fun _ => rfl) ?_
            exact br_t rfl (br_f (by rw [hb]; decide) k)
          · refine And.intro i24 (nm_r e1 (And.intro i24 (nm_r e2 (And.intro i24 (nm_r e5 (And.intro i24 (nm_r e4 (And.intro i24 (nm_r e6 (br_f k1 ?_))))))))))
            refine hY2 _ _ _ ?_
            exact yE _ _ (br_f (by rw [hb]; decide) k)
    · rcases hb with hb | hb
      · refine ⟨6, A', F, (nI L, T, D, nI C, nI w, sr_i N, sr_i O', wd, sr_i h, sr_i F, dl, ew, sr_i M, tm, gf, upd wk i 0, sr_i fr, sr_i xn, sr_i xa, ww, sr_i ag), (nI L, T, D, nI C, nI w, wd, sr_i t, gt, sr_i N, sr_i A', tm, gf, upd wk i 0, sr_i fr, sr_i nn, sr_i aa, sr_i ag), sr_mk g2 H0, fun post k => ?_, fun post k => ?_⟩
        · refine And.intro i24 (nm_r e1 (And.intro i24 (nm_r e2 (And.intro i24 (nm_r e3 (And.intro i24 (nm_e (And.intro i24 (nm_e (And.intro i24 (nm_r e6 (br_f k1 ?_))))))))))))
          refine hX2 _ ?_
          exact br_f k3 (br_t hb k)
        · refine And.intro i24 (nm_r e1 (And.intro i24 (nm_r e2 (And.intro i24 (nm_r e5 (And.intro i24 (nm_r e4 (And.intro i24 (nm_r e6 (br_f k1 ?_))))))))))
          refine hY2 _ _ _ ?_
          exact br_f k1 (br_f k3 (br_t hb k))
      · refine ⟨4, A', F, (nI L, T, D, nI C, nI w, sr_i N, sr_i O', wd, sr_i h, sr_i F, dl, ew, sr_i M, tm, gf, upd wk i 0, sr_i fr, sr_i xn, sr_i xa, ww, sr_i ag), (nI L, T, D, nI C, nI w, wd, sr_i t, gt, sr_i N, sr_i A', tm, gf, upd wk i 0, sr_i fr, sr_i nn, sr_i aa, sr_i ag), sr_mk g2 H0, fun post k => ?_, fun post k => ?_⟩
        · refine And.intro i24 (nm_r e1 (And.intro i24 (nm_r e2 (And.intro i24 (nm_r e3 (And.intro i24 (nm_e (And.intro i24 (nm_e (And.intro i24 (nm_r e6 (br_f k1 ?_))))))))))))
          refine hX2 _ ?_
          exact br_f k3 (br_f (by rw [hb]; decide) k)
        · refine And.intro i24 (nm_r e1 (And.intro i24 (nm_r e2 (And.intro i24 (nm_r e5 (And.intro i24 (nm_r e4 (And.intro i24 (nm_r e6 (br_f k1 ?_))))))))))
          refine hY2 _ _ _ ?_
          exact br_f k1 (br_f k3 (br_f (by rw [hb]; decide) k))
end
def sr_X14 (post : Int32 → SX → Prop) (x1 : Int32) (n : Nat) (x2 x3 : Int32) (u : SX) : Prop := match u with
  | (f1, f2, f3, f4, f5, a1, a2, a3, a4, a5, a6, a7, a8, a9, a10, a11, a12, a13, a14, a15, a16) => wX_deliverAll_14 post x1 n x2 x3 f1 f2 f3 f4 f5 a1 a2 a3 a4 a5 a6 a7 a8 a9 a10 a11 a12 a13 a14 a15 a16
def sr_Y14 (post : Int32 → SY → Prop) (x1 : Int32) (n : Nat) (x2 x3 : Int32) (v : SY) : Prop := match v with
  | (f1, f2, f3, f4, f5, a1, a2, a3, a4, a5, a6, a7, a8, a9, a10, a11, a12) => wY_deliverAll_14 post x1 n x2 x3 f1 f2 f3 f4 f5 a1 a2 a3 a4 a5 a6 a7 a8 a9 a10 a11 a12
theorem sr_Lall {L : Nat} {T D : Int32} {C w : Nat} {N : Nat → Nat} {s : Nat} (hs : s < 2) : ∀ m j (c : Int32) (A F : Nat → Nat) (u : SX) (v : SY), j + m = C → sr_Q L T D C w N A F u v →
    ∃ r A' F' u' v', sr_Q L T D C w N A' F' u' v' ∧ (∀ post : Int32 → SX → Prop, post r u' → sr_X14 post (nI s) (m + 1) c (nI j) u) ∧
      (∀ post : Int32 → SY → Prop, post r v' → sr_Y14 post (nI s) (m + 1) c (nI j) v) := by
  intro m
  induction m with
  | zero =>
    intro j c A F u v hj q
    have e : j = C := by omega
    subst e
    apply sr_el q
    intro O M t h fr nn aa ag xn xa wd dl ew tm gf wk ww gt g H
    have hC := g.2.1
    exact ⟨c, A, F, (nI L, T, D, nI j, nI w, sr_i N, sr_i O, wd, sr_i h, sr_i F, dl, ew, sr_i M, tm, gf, wk, sr_i fr, sr_i xn, sr_i xa, ww, sr_i ag), (nI L, T, D, nI j, nI w, wd, sr_i t, gt, sr_i N, sr_i A, tm, gf, wk, sr_i fr, sr_i nn, sr_i aa, sr_i ag), sr_mk g H, fun post k => br_t (nI_le (Nat.le_refl _) (by omega)) k, fun post k => br_t (nI_le (Nat.le_refl _) (by omega)) k⟩
  | succ m ih =>
    intro j c A F u v hj q
    apply sr_el q
    intro O M t h fr nn aa ag xn xa wd dl ew tm gf wk ww gt g H
    have hC := g.2.1
    have hj2 : j < C := by omega
    have jc := sr_ic hj2 hC
    have j24 := sr_n24 hj2 hC
    have hc : ¬ nI C ≤ nI j := nI_ge (by omega) (by omega)
    by_cases z : wk j = 0
    · obtain ⟨r, A', F', u', v', q', kX, kY⟩ := ih (j + 1) c A F _ _ (by omega) (sr_mk (T := T) (D := D) (tm := tm) (gf := gf) g H)
      refine ⟨r, A', F', u', v', q', fun post k => ?_, fun post k => ?_⟩
      · exact br_f hc (And.intro j24 (br_t (by rw [nI_clamp jc]; exact z) (nm_r (nI_1 j) (kX post k))))
      · exact br_f hc (And.intro j24 (br_t (by rw [nI_clamp jc]; exact z) (nm_r (nI_1 j) (kY post k))))
    · have hf := (H j hj2 z).1
      have es : (1 : Int32) - nI s = nI (1 - s) := by
        show nI 1 - nI s = _
        exact pk_sub (by omega)
      by_cases y : fr j = s
      · obtain ⟨r, A', F', u', v', q', kX, kY⟩ := ih (j + 1) c A F _ _ (by omega) (sr_mk (T := T) (D := D) (tm := tm) (gf := gf) g H)
        refine ⟨r, A', F', u', v', q', fun post k => ?_, fun post k => ?_⟩
        · exact br_f hc (And.intro j24 (br_f (by rw [nI_clamp jc]; exact z) (And.intro j24 (br_t (by rw [sr_rd jc, y]) (nm_r (nI_1 j) (kX post k))))))
        · exact br_f hc (And.intro j24 (br_f (by rw [nI_clamp jc]; exact z) (And.intro j24 (br_f (by rw [sr_rd jc, es]; exact fun q => by have := (nI_eq (by omega) (by omega)).mp q; omega) (nm_r (nI_1 j) (kY post k))))))
      · obtain ⟨r1, A1, F1, u1, v1, q1, hX, hY⟩ := sr_Larr (T := T) (D := D) (tm := tm) (gf := gf) hj2 z g H
        revert hX hY
        apply sr_el q1
        intro O1 M1 t1 h1 fr1 nn1 aa1 ag1 xn1 xa1 wd1 dl1 ew1 tm1 gf1 wk1 ww1 gt1 g1 H1 hX hY
        obtain ⟨r, A', F', u', v', q', kX, kY⟩ := ih (j + 1) (c + 1) A1 F1 _ _ (by omega) (sr_mk (T := T) (D := D) (tm := tm1) (gf := gf1) g1 H1)
        refine ⟨r, A', F', u', v', q', fun post k => ?_, fun post k => ?_⟩
        · refine br_f hc (And.intro j24 (br_f (by rw [nI_clamp jc]; exact z) (And.intro j24 (br_f (by rw [sr_rd jc]; exact fun q => y ((nI_eq (by omega) (by omega)).mp q)) ?_))))
          refine hX _ ?_
          exact nm_e (nm_r (nI_1 j) (kX post k))
        · refine br_f hc (And.intro j24 (br_f (by rw [nI_clamp jc]; exact z) (And.intro j24 (br_t (by rw [sr_rd jc, es]; exact congrArg nI (by omega)) ?_))))
          refine hY _ ?_
          exact nm_e (nm_r (nI_1 j) (kY post k))
end
section
/-! the owed relation; calls' heads: stations, slots; sending -/
def i_Rel (k : Nat) (u : SX) (v : SY) : Prop := ∃ (L : Nat) (T D : Int32) (C w : Nat) (N A F : Nat → Nat), sr_Q L T D C w N A F u v
theorem i_up {k : Nat} {u : SX} {v : SY} (h : i_Rel k u v) : i_Rel (k + 3) u v := h
theorem sr_rel {L : Nat} {T D : Int32} {C w : Nat} {N A F : Nat → Nat} {u : SX} {v : SY} {k : Nat} (q : sr_Q L T D C w N A F u v) : i_Rel k u v := ⟨L, T, D, C, w, N, A, F, q⟩
def sr_cl (x a b : Int32) : Int32 := if a ≤ x then (if x ≤ b then x else b) else a
theorem sr_xc {post : Int32 → Prop} {u : SX} {x a b : Int32} (k : post (sr_cl x a b)) : wpX_clamp post u x a b := by
  obtain ⟨a1, a2, a3, a4, a5, a6, a7, a8, a9, a10, a11, a12, a13, a14, a15, a16, a17, a18, a19, a20, a21⟩ := u
  unfold sr_cl at k
  by_cases h1 : a ≤ x
  · rw [if_pos h1] at k
    by_cases h2 : x ≤ b
    · rw [if_pos h2] at k; exact br_t h1 (br_t h2 k)
    · rw [if_neg h2] at k; exact br_t h1 (br_f h2 k)
  · rw [if_neg h1] at k; exact br_f h1 k
theorem sr_yc {post : Int32 → Prop} {u : SY} {x a b : Int32} (k : post (sr_cl x a b)) : wpY_clamp post u x a b := by
  obtain ⟨a1, a2, a3, a4, a5, a6, a7, a8, a9, a10, a11, a12, a13, a14, a15, a16, a17⟩ := u
  unfold sr_cl at k
  by_cases h1 : a ≤ x
  · rw [if_pos h1] at k
    by_cases h2 : x ≤ b
    · rw [if_pos h2] at k; exact br_t h1 (br_t h2 k)
    · rw [if_neg h2] at k; exact br_t h1 (br_f h2 k)
  · rw [if_neg h1] at k; exact br_f h1 k
theorem sr_clN (x : Int32) {a b : Nat} (hab : a ≤ b) (hb : b < 2 ^ 31) : ∃ n, n ≤ b ∧ sr_cl x (nI a) (nI b) = nI n := by
  unfold sr_cl
  by_cases h1 : nI a ≤ x
  · rw [if_pos h1]
    by_cases h2 : x ≤ nI b
    · rw [if_pos h2]
      have h0 : ¬ x < 0 := fun z => by
        have := Int32.lt_of_le_of_lt h1 z
        exact nI_pos (by omega) this
      obtain ⟨j, hj, rfl⟩ := nI_of h0
      exact ⟨j, (nI_leI hj hb).mp h2, rfl⟩
    · rw [if_neg h2]; exact ⟨b, Nat.le_refl _, rfl⟩
  · rw [if_neg h1]; exact ⟨a, hab, rfl⟩
theorem sr_G0 {L C : Nat} (hL : L ≤ 12) (hC : C ≤ 24) : sr_G L C 0 (fun _ => 0) (fun _ => 0) (fun _ => 0) (fun _ => 0) (fun _ => 0) (fun _ => 0) (fun _ => 0) (fun _ => 0) (fun _ => 0) (fun _ => 0) (fun _ => 0) := by
  refine ⟨hL, hC, by omega, fun s d e => ⟨⟨rfl, Nat.zero_le _, Nat.zero_le _, Nat.le_refl _, Nat.le_refl _⟩, ⟨fun p hp => absurd hp (Nat.not_lt_zero p), fun p hp => absurd hp (Nat.not_lt_zero p)⟩, fun p hp => absurd hp (Nat.not_lt_zero p), fun p hp hg => absurd rfl hg, fun _ => rfl, fun p hp => absurd hp (Nat.not_lt_zero p), fun p _ _ hg => absurd rfl hg, ?_⟩⟩
  rw [sr_q0 (fun _ => rfl), sr_q0 (fun _ => rfl), sr_q0 (fun _ => rfl)]
theorem i_vc0 (k0 : Int32) (k1 : Int32) (k2 : Int32) (k3 : Int32) : wpX_init (fun u => wpY_init (fun v => i_Rel 4 u v) k0 k1 k2 k3) k0 k1 k2 k3 := by
  obtain ⟨L, hL, eL⟩ := sr_clN k0 (a := 1) (b := 12) (by omega) (by omega)
  obtain ⟨C, hC, eC⟩ := sr_clN k3 (a := 4) (b := 24) (by omega) (by omega)
  unfold wpX_init
  refine sr_xc ?_
  refine sr_xc ?_
  refine sr_xc ?_
  refine sr_xc ?_
  unfold wpY_init
  refine sr_yc ?_
  refine sr_yc ?_
  refine sr_yc ?_
  refine sr_yc ?_
  rw [show sr_cl k0 1 12 = nI L from eL, show sr_cl k3 4 24 = nI C from eC]
  exact ⟨L, _, _, C, 0, fun _ => 0, fun _ => 0, fun _ => 0, sr_mk (O := fun _ => 0) (M := fun _ => 0) (t := fun _ => 0) (h := fun _ => 0) (fr := fun _ => 0) (nn := fun _ => 0) (aa := fun _ => 0) (ag := fun _ => 0) (xn := fun _ => 0) (xa := fun _ => 0) (wd := fun _ => 0) (dl := fun _ => 0) (ew := fun _ => 0) (tm := fun _ => 0) (gf := fun _ => 0) (wk := fun _ => 0) (ww := fun _ => 0) (gt := fun _ => 0) (sr_G0 hL hC) (fun i hi hk => absurd rfl hk)⟩
theorem sr_sta (x : Int32) : (∃ s, s < 2 ∧ x = nI s) ∨ (¬ x = 0 ∧ ¬ x = 1) := by
  by_cases h0 : x = 0
  · exact Or.inl ⟨0, by omega, h0⟩
  · by_cases h1 : x = 1
    · exact Or.inl ⟨1, by omega, h1⟩
    · exact Or.inr ⟨h0, h1⟩
theorem sr_xbs0 {post : Int32 → Prop} {u : SX} {s : Nat} (hs : s < 2) (k : post 0) : wpX_badStation post u (nI s) := by
  obtain ⟨a1, a2, a3, a4, a5, a6, a7, a8, a9, a10, a11, a12, a13, a14, a15, a16, a17, a18, a19, a20, a21⟩ := u
  by_cases h : s = 0
  · subst h; exact br_t rfl k
  · have : s = 1 := by omega
    subst this; exact br_f (by decide) (br_t rfl k)
theorem sr_xbs1 {post : Int32 → Prop} {u : SX} {x : Int32} (h : ¬ x = 0 ∧ ¬ x = 1) (k : post 1) : wpX_badStation post u x := by
  obtain ⟨a1, a2, a3, a4, a5, a6, a7, a8, a9, a10, a11, a12, a13, a14, a15, a16, a17, a18, a19, a20, a21⟩ := u
  exact br_f h.1 (br_f h.2 k)
theorem sr_ybs0 {post : Int32 → Prop} {u : SY} {s : Nat} (hs : s < 2) (k : post 0) : wpY_badStation post u (nI s) := by
  obtain ⟨a1, a2, a3, a4, a5, a6, a7, a8, a9, a10, a11, a12, a13, a14, a15, a16, a17⟩ := u
  by_cases h : s = 0
  · subst h; exact br_t rfl k
  · have : s = 1 := by omega
    subst this; exact br_f (by decide) (br_t rfl k)
theorem sr_ybs1 {post : Int32 → Prop} {u : SY} {x : Int32} (h : ¬ x = 0 ∧ ¬ x = 1) (k : post 1) : wpY_badStation post u x := by
  obtain ⟨a1, a2, a3, a4, a5, a6, a7, a8, a9, a10, a11, a12, a13, a14, a15, a16, a17⟩ := u
  exact br_f h.1 (br_f h.2 k)
theorem sr_slot (x : Int32) {C : Nat} (hC : C ≤ 24) : (∃ i, i < C ∧ x = nI i) ∨ (x < 0 ∨ (¬ x < 0 ∧ nI C ≤ x)) := by
  rcases pk_ix x (n := C) (by omega) with h | h | ⟨j, hj, e⟩
  · exact Or.inr (Or.inl h)
  · by_cases z : x < 0
    · exact Or.inr (Or.inl z)
    · exact Or.inr (Or.inr ⟨z, h⟩)
  · exact Or.inl ⟨j, hj, e⟩
section
variable {L : Nat} {T : Int32} {D : Int32} {C : Nat} {w : Nat} {N : Nat → Nat} {A : Nat → Nat} {F : Nat → Nat} {O : Nat → Nat} {M : Nat → Nat} {t : Nat → Nat} {h : Nat → Nat} {fr : Nat → Nat} {nn : Nat → Nat} {aa : Nat → Nat} {ag : Nat → Nat} {xn : Nat → Nat} {xa : Nat → Nat} {wd : Nat → Int32} {dl : Nat → Int32} {ew : Nat → Int32} {tm : Nat → Int32} {gf : Nat → Int32} {wk : Nat → Int32} {ww : Nat → Int32} {gt : Nat → Int32}
theorem sr_xsl0 {post : Int32 → Prop} {i : Nat} (hi : i < C) (hC : C ≤ 24) (k : post 0) : wpX_badSlot post (nI L, T, D, nI C, nI w, sr_i N, sr_i O, wd, sr_i h, sr_i F, dl, ew, sr_i M, tm, gf, wk, sr_i fr, sr_i xn, sr_i xa, ww, sr_i ag) (nI i) :=
  br_f (nI_pos (by omega)) (br_t (nI_lt hi (by omega)) k)
theorem sr_xsl1 {post : Int32 → Prop} {x : Int32} (hx : x < 0 ∨ (¬ x < 0 ∧ nI C ≤ x)) (k : post 1) : wpX_badSlot post (nI L, T, D, nI C, nI w, sr_i N, sr_i O, wd, sr_i h, sr_i F, dl, ew, sr_i M, tm, gf, wk, sr_i fr, sr_i xn, sr_i xa, ww, sr_i ag) x := by
  rcases hx with h | ⟨h, h2⟩
  · exact br_t h k
  · exact br_f h (br_f (Int32.not_lt.mpr h2) k)
theorem sr_ysl0 {post : Int32 → Prop} {i : Nat} (hi : i < C) (hC : C ≤ 24) (k : post 0) : wpY_noSlot post (nI L, T, D, nI C, nI w, wd, sr_i t, gt, sr_i N, sr_i A, tm, gf, wk, sr_i fr, sr_i nn, sr_i aa, sr_i ag) (nI i) :=
  br_f (nI_pos (by omega)) (br_t (nI_lt hi (by omega)) k)
theorem sr_ysl1 {post : Int32 → Prop} {x : Int32} (hx : x < 0 ∨ (¬ x < 0 ∧ nI C ≤ x)) (k : post 1) : wpY_noSlot post (nI L, T, D, nI C, nI w, wd, sr_i t, gt, sr_i N, sr_i A, tm, gf, wk, sr_i fr, sr_i nn, sr_i aa, sr_i ag) x := by
  rcases hx with h | ⟨h, h2⟩
  · exact br_t h k
  · exact br_f h (br_f (Int32.not_lt.mpr h2) k)
theorem sr_xnf0 {post : Int32 → Prop} {i : Nat} (hi : i < C) (hC : C ≤ 24) (hk : wk i ≠ 0) (k : post 0) : wpX_noFrame post (nI L, T, D, nI C, nI w, sr_i N, sr_i O, wd, sr_i h, sr_i F, dl, ew, sr_i M, tm, gf, wk, sr_i fr, sr_i xn, sr_i xa, ww, sr_i ag) (nI i) :=
  br_f (nI_pos (by omega)) (br_f (nI_ge hi (by omega)) (And.intro (sr_n24 hi hC) (br_f (by rw [nI_clamp (by omega)]; exact hk) k)))
theorem sr_xnf2 {post : Int32 → Prop} {i : Nat} (hi : i < C) (hC : C ≤ 24) (hk : wk i = 0) (k : post 1) : wpX_noFrame post (nI L, T, D, nI C, nI w, sr_i N, sr_i O, wd, sr_i h, sr_i F, dl, ew, sr_i M, tm, gf, wk, sr_i fr, sr_i xn, sr_i xa, ww, sr_i ag) (nI i) :=
  br_f (nI_pos (by omega)) (br_f (nI_ge hi (by omega)) (And.intro (sr_n24 hi hC) (br_t (by rw [nI_clamp (by omega)]; exact hk) k)))
theorem sr_xnf1 {post : Int32 → Prop} {x : Int32} (hx : x < 0 ∨ (¬ x < 0 ∧ nI C ≤ x)) (k : post 1) : wpX_noFrame post (nI L, T, D, nI C, nI w, sr_i N, sr_i O, wd, sr_i h, sr_i F, dl, ew, sr_i M, tm, gf, wk, sr_i fr, sr_i xn, sr_i xa, ww, sr_i ag) x := by
  rcases hx with h | ⟨h, h2⟩
  · exact br_t h k
  · exact br_f h (br_t h2 k)
theorem sr_xhold0 {post : Int32 → Prop} {s p : Nat} (hp : p < 12) (k : post 0) : wpX_holdTicks post (nI L, T, D, nI C, nI w, sr_i N, sr_i O, wd, sr_i h, sr_i F, dl, ew, sr_i M, tm, gf, wk, sr_i fr, sr_i xn, sr_i xa, ww, sr_i ag) (nI s) (nI p) := by
  have z : ¬ (0 : Int32) ≤ nI p - 12 := Int32.not_le.mpr (pk_sneg (b := 12) (by omega) hp)
  exact nm_e (br_f z k)
theorem sr_xhold1 {post : Int32 → Prop} {s p v : Nat} (hs : s < 2) (hp : 12 ≤ p) (hp2 : p < 2 ^ 31) (hL : L ≤ 12) (hw : w ≤ 20000) (hv : h (s * 16 + (p - 12) % 16) = v) (hvw : v ≤ w) (k : post (nI (2 * L + 1 - (w - v)))) :
    wpX_holdTicks post (nI L, T, D, nI C, nI w, sr_i N, sr_i O, wd, sr_i h, sr_i F, dl, ew, sr_i M, tm, gf, wk, sr_i fr, sr_i xn, sr_i xa, ww, sr_i ag) (nI s) (nI p) := by
  have e1 : nI p - 12 = nI (p - 12) := pk_sub (b := 12) hp
  refine nm_r e1 (br_t (nI_pos' (by omega)) ?_)
  refine sr_xsh hs (by omega) hv hvw ?_
  have e2 : (2 : Int32) * nI L + 1 = nI (2 * L + 1) := by
    show nI 2 * nI L + 1 = _
    rw [pk_mul, nI_1]
  by_cases z : w - v ≤ 2 * L + 1
  · have e3 : (2 : Int32) * nI L + 1 - nI (w - v) = nI (2 * L + 1 - (w - v)) := by rw [e2, pk_sub z]
    exact nm_r e3 (br_t (nI_pos' (by omega)) k)
  · have e3 : ¬ (0 : Int32) ≤ (2 : Int32) * nI L + 1 - nI (w - v) := by
      rw [e2]; exact Int32.not_le.mpr (pk_sneg (by omega) (by omega))
    rw [show 2 * L + 1 - (w - v) = 0 by omega] at k
    exact nm_e (br_f e3 k)
/-- both sides send -/
theorem sr_Lacc {s : Nat} {x : Int32} (hs : s < 2) (hN : N s < 128) (hO : O s < 4) (hold : 12 ≤ N s → t (s * 128 + (N s - 12)) + 2 * L < w) (g : sr_G L C w N O A F M t h wd dl ew gt) (H : sr_H L C w N F t wd wk fr nn aa ag xn xa ww) :
    ∃ u' v', sr_Q L T D C w (sr_u N s (N s + 1)) A F u' v' ∧
      (∀ post : SX → Prop, post u' → wpX_handData post (nI L, T, D, nI C, nI w, sr_i (sr_u N s (N s + 1)), sr_i (sr_u O s (O s + 1)), upd wd (s * 128 + N s) x, sr_i h, sr_i F, dl, ew, sr_i M, tm, gf, wk, sr_i fr, sr_i xn, sr_i xa, ww, sr_i ag) (nI s) (nI (N s))) ∧
      (∀ post : SY → Prop, post v' → wpY_hand post (nI L, T, D, nI C, nI w, upd wd (s * 128 + N s) x, sr_i t, gt, sr_i (sr_u N s (N s + 1)), sr_i A, tm, gf, wk, sr_i fr, sr_i nn, sr_i aa, sr_i ag) (nI s) 1 (nI (N s))) := by
  obtain ⟨hC, -, hF, hOA, hO4, hL, hw⟩ := sr_G4 hs g
  exact sr_Ldata hs (by omega) (by rw [sr_us]; omega) rfl rfl (sr_Gsend hs hN hO g) (sr_Hsend hs hN hold g H)
end
end
section
/-! the owed statements: calls that store -/
section
variable {L : Nat} {T : Int32} {D : Int32} {C : Nat} {w : Nat} {N : Nat → Nat} {A : Nat → Nat} {F : Nat → Nat} {O : Nat → Nat} {M : Nat → Nat} {t : Nat → Nat} {h : Nat → Nat} {fr : Nat → Nat} {nn : Nat → Nat} {aa : Nat → Nat} {ag : Nat → Nat} {xn : Nat → Nat} {xa : Nat → Nat} {wd : Nat → Int32} {dl : Nat → Int32} {ew : Nat → Int32} {tm : Nat → Int32} {gf : Nat → Int32} {wk : Nat → Int32} {ww : Nat → Int32} {gt : Nat → Int32}
theorem sr_Lsend {s : Nat} (hs : s < 2) (x : Int32) (g : sr_G L C w N O A F M t h wd dl ew gt) (H : sr_H L C w N F t wd wk fr nn aa ag xn xa ww) :
    ∃ r N' u' v', sr_Q L T D C w N' A F u' v' ∧ (∀ post : Int32 → SX → Prop, post r u' → wpX_send post (nI L, T, D, nI C, nI w, sr_i N, sr_i O, wd, sr_i h, sr_i F, dl, ew, sr_i M, tm, gf, wk, sr_i fr, sr_i xn, sr_i xa, ww, sr_i ag) (nI s) x) ∧ (∀ post : Int32 → SY → Prop, post r v' → wpY_send post (nI L, T, D, nI C, nI w, wd, sr_i t, gt, sr_i N, sr_i A, tm, gf, wk, sr_i fr, sr_i nn, sr_i aa, sr_i ag) (nI s) x) := by
  have s2 := sr_n2 hs
  have sc := sr_sc hs
  obtain ⟨hC, hN, hF, hO, hO4, hL, hw⟩ := sr_G4 hs g
  have ht := (g.2.2.2 s (1 - s) (by omega)).2.1
  by_cases c1 : N s < 128
  · have x1 : nI (N s) < 128 := nI_lt (b := 128) c1 (by omega)
    have yd : nI (N s) - sr_i A (nI s).toNatClampNeg = nI (O s) := by
      rw [sr_rd sc, pk_sub (by omega)]; exact congrArg nI (by omega)
    by_cases c2 : O s < 4
    · have x2 : sr_i O (nI s).toNatClampNeg < 4 := by rw [sr_rd sc]; exact nI_lt (b := 4) c2 (by omega)
      have y2 : ¬ nI (N s) - sr_i A (nI s).toNatClampNeg = 4 := by
        rw [yd]; exact fun z => by have := (nI_eq (b := 4) (by omega) (by omega)).mp z; omega
      by_cases c3 : 12 ≤ N s ∧ w ≤ t (s * 128 + (N s - 12)) + 2 * L
      · obtain ⟨c3, c4⟩ := c3
        have hv := ht.2 (N s - 12) (by omega) (by omega)
        have hv2 := ht.1 (N s - 12) (by omega)
        have y3 : ¬ nI (N s) < 12 := nI_nlt (b := 12) c3 (by omega)
        have ei : nI s * 128 + nI (N s) - 12 = nI (s * 128 + (N s - 12)) := by
          rw [sr_128]
          show nI _ - nI 12 = _
          rw [pk_sub (by omega)]; exact congrArg nI (by omega)
        refine ⟨-5, N, (nI L, T, D, nI C, nI w, sr_i N, sr_i O, wd, sr_i h, sr_i F, dl, ew, sr_i M, tm, gf, wk, sr_i fr, sr_i xn, sr_i xa, ww, sr_i ag), (nI L, T, D, nI C, nI w, wd, sr_i t, gt, sr_i N, sr_i A, tm, gf, wk, sr_i fr, sr_i nn, sr_i aa, sr_i ag), sr_mk g H, fun post k => ?_, fun post k => ?_⟩
        · unfold wpX_send
          refine sr_xbs0 hs ?_
          refine br_t rfl (And.intro s2 (nm_r (sr_rd sc) (br_t x1 (And.intro s2 (br_t x2 ?_)))))
          refine sr_xhold1 hs c3 (by omega) hL hw hv hv2 ?_
          exact br_f (nI_nle (by omega) (by omega)) k
        · unfold wpY_send
          refine sr_ybs0 hs ?_
          refine br_t rfl (And.intro s2 (nm_r (sr_rd sc) (br_t x1 (And.intro s2 (br_f y2 (br_f y3 ?_))))))
          have yc : ¬ (2 : Int32) * nI L < nI w - sr_i t (nI s * 128 + nI (N s) - 12).toNatClampNeg := by
            rw [ei, sr_rd (by omega), pk_sub hv2]
            show ¬ nI 2 * nI L < _
            rw [pk_mul]; exact nI_nlt (by omega) (by omega)
          exact And.intro (by rw [ei]; exact vp_in_nI (by omega) (by omega)) (br_f yc k)
      · obtain ⟨u1, v1, q, hX, hY⟩ := sr_Lacc (T := T) (D := D) (tm := tm) (gf := gf) (x := x) hs c1 c2 (by omega) g H
        revert hX hY
        apply sr_el q
        intro O1 M1 t1 h1 fr1 nn1 aa1 ag1 xn1 xa1 wd1 dl1 ew1 tm1 gf1 wk1 ww1 gt1 g1 H1 hX hY
        have k8 := sr_n128 hs c1
        have ewd : upd wd (nI s * 128 + nI (N s)).toNatClampNeg x = upd wd (s * 128 + N s) x := by rw [sr_k128 hs c1]
        have eN : upd (sr_i N) (nI s).toNatClampNeg (nI (N s) + 1) = sr_i (sr_u N s (N s + 1)) := by rw [nI_1, sr_ui sc]
        have eO : upd (sr_i O) (nI s).toNatClampNeg (sr_i O (nI s).toNatClampNeg + 1) = sr_i (sr_u O s (O s + 1)) := by rw [sr_rd sc, nI_1, sr_ui sc]
        refine ⟨nI (N s % 16), sr_u N s (N s + 1), (nI L, T, D, nI C, nI w, sr_i (sr_u N s (N s + 1)), sr_i O1, wd1, sr_i h1, sr_i F, dl1, ew1, sr_i M1, tm1, gf1, wk1, sr_i fr1, sr_i xn1, sr_i xa1, ww1, sr_i ag1), (nI L, T, D, nI C, nI w, wd1, sr_i t1, gt1, sr_i (sr_u N s (N s + 1)), sr_i A, tm1, gf1, wk1, sr_i fr1, sr_i nn1, sr_i aa1, sr_i ag1), sr_mk g1 H1, fun post k => ?_, fun post k => ?_⟩
        · have z0 : (0 : Int32) ≤ 0 := by decide
          unfold wpX_send
          refine sr_xbs0 hs ?_
          refine br_t rfl (And.intro s2 (nm_r (sr_rd sc) (br_t x1 (And.intro s2 (br_t x2 ?_)))))
          by_cases c5 : N s < 12
          · refine sr_xhold0 c5 ?_
            exact br_t z0 (And.intro k8 (nm_r ewd (And.intro s2 (nm_r eN (And.intro s2 (And.intro s2 (nm_r eO (hX _ (sr_x4 (sr_a15 (p := N s) (by omega)) k)))))))))
          · have hv := ht.2 (N s - 12) (by omega) (by omega)
            have hv2 := ht.1 (N s - 12) (by omega)
            refine sr_xhold1 hs (by omega) (by omega) hL hw hv hv2 ?_
            rw [show 2 * L + 1 - (w - t (s * 128 + (N s - 12))) = 0 by omega]
            exact br_t z0 (And.intro k8 (nm_r ewd (And.intro s2 (nm_r eN (And.intro s2 (And.intro s2 (nm_r eO (hX _ (sr_x4 (sr_a15 (p := N s) (by omega)) k)))))))))
        · have fin : wY_send_80 post (nI s) x (nI (N s)) (nI L) T D (nI C) (nI w) wd (sr_i t) gt (sr_i N) (sr_i A) tm gf wk (sr_i fr) (sr_i nn) (sr_i aa) (sr_i ag) := by
            refine And.intro k8 (nm_r ewd (And.intro s2 (nm_r eN ?_)))
            refine hY _ ?_
            refine And.intro (by decide) ?_
            have er : nI (N s) - nI (N s) / 16 * 16 = nI (N s % 16) := pk_rem (d := 16) (by omega) (by omega) (by omega)
            rw [er]; exact k
          unfold wpY_send
          refine sr_ybs0 hs ?_
          refine br_t rfl (And.intro s2 (nm_r (sr_rd sc) (br_t x1 (And.intro s2 (br_f y2 ?_)))))
          by_cases c5 : N s < 12
          · exact br_t (nI_lt (b := 12) c5 (by omega)) fin
          · have hv2 := ht.1 (N s - 12) (by omega)
            have ei : nI s * 128 + nI (N s) - 12 = nI (s * 128 + (N s - 12)) := by
              rw [sr_128]
              show nI _ - nI 12 = _
              rw [pk_sub (by omega)]; exact congrArg nI (by omega)
            have yc : (2 : Int32) * nI L < nI w - sr_i t (nI s * 128 + nI (N s) - 12).toNatClampNeg := by
              rw [ei, sr_rd (by omega), pk_sub hv2]
              show nI 2 * nI L < _
              rw [pk_mul]; exact nI_lt (by omega) (by omega)
            exact br_f (nI_nlt (b := 12) (by omega) (by omega)) (And.intro (by rw [ei]; exact vp_in_nI (by omega) (by omega)) (br_t yc fin))
    · have x2 : ¬ sr_i O (nI s).toNatClampNeg < 4 := by rw [sr_rd sc]; exact nI_nlt (b := 4) (by omega) (by omega)
      have y2 : nI (N s) - sr_i A (nI s).toNatClampNeg = 4 := by
        rw [yd]; exact congrArg nI (show O s = 4 by omega)
      refine ⟨-4, N, (nI L, T, D, nI C, nI w, sr_i N, sr_i O, wd, sr_i h, sr_i F, dl, ew, sr_i M, tm, gf, wk, sr_i fr, sr_i xn, sr_i xa, ww, sr_i ag), (nI L, T, D, nI C, nI w, wd, sr_i t, gt, sr_i N, sr_i A, tm, gf, wk, sr_i fr, sr_i nn, sr_i aa, sr_i ag), sr_mk g H, fun post k => ?_, fun post k => ?_⟩
      · unfold wpX_send
        refine sr_xbs0 hs ?_
        exact br_t rfl (And.intro s2 (nm_r (sr_rd sc) (br_t x1 (And.intro s2 (br_f x2 k)))))
      · unfold wpY_send
        refine sr_ybs0 hs ?_
        exact br_t rfl (And.intro s2 (nm_r (sr_rd sc) (br_t x1 (And.intro s2 (br_t y2 k)))))
  · have x1 : ¬ nI (N s) < 128 := nI_nlt (b := 128) (by omega) (by omega)
    refine ⟨-6, N, (nI L, T, D, nI C, nI w, sr_i N, sr_i O, wd, sr_i h, sr_i F, dl, ew, sr_i M, tm, gf, wk, sr_i fr, sr_i xn, sr_i xa, ww, sr_i ag), (nI L, T, D, nI C, nI w, wd, sr_i t, gt, sr_i N, sr_i A, tm, gf, wk, sr_i fr, sr_i nn, sr_i aa, sr_i ag), sr_mk g H, fun post k => ?_, fun post k => ?_⟩
    · unfold wpX_send
      refine sr_xbs0 hs ?_
      exact br_t rfl (And.intro s2 (nm_r (sr_rd sc) (br_f x1 k)))
    · unfold wpY_send
      refine sr_ybs0 hs ?_
      exact br_t rfl (And.intro s2 (nm_r (sr_rd sc) (br_f x1 k)))
end
theorem i_vc_send {k : Nat} {u : SX} {v : SY} (I : i_Rel k u v) (hk : k + 3 ≤ 1540) (v1 : Int32) (v2 : Int32) : wpX_send (fun r u' => wpY_send (fun r' v' => r' = r ∧ i_Rel (k + 3) u' v') v v1 v2) u v1 v2 := by
  obtain ⟨L, T, D, C, w, N, A, F, q⟩ := I
  apply sr_el q
  intro O M t h fr nn aa ag xn xa wd dl ew tm gf wk ww gt g H
  rcases sr_sta v1 with ⟨s, hs, rfl⟩ | hb
  · obtain ⟨r, N', u', v', q', hX, hY⟩ := sr_Lsend (T := T) (D := D) (tm := tm) (gf := gf) hs v2 g H
    exact hX _ (hY _ ⟨rfl, sr_rel q'⟩)
  · unfold wpX_send
    refine sr_xbs1 hb ?_
    refine br_f (by decide) ?_
    unfold wpY_send
    refine sr_ybs1 hb ?_
    exact br_f (by decide) ⟨rfl, sr_rel (sr_mk g H)⟩
theorem i_vc_tick {k : Nat} {u : SX} {v : SY} (I : i_Rel k u v) (hk : k + 3 ≤ 1540) (v1 : Int32) : wpX_tick (fun r u' => wpY_tick (fun r' v' => r' = r ∧ i_Rel (k + 3) u' v') v v1) u v1 := by
  obtain ⟨L, T, D, C, w, N, A, F, q⟩ := I
  by_cases c1 : v1 < 1
  · apply sr_el q
    intro O M t h fr nn aa ag xn xa wd dl ew tm gf wk ww gt g H
    exact br_t c1 (br_t c1 ⟨rfl, sr_rel (sr_mk g H)⟩)
  · by_cases c2 : v1 ≤ 16
    · have h0 : ¬ v1 < 0 := fun z => c1 (Int32.lt_trans z (by decide))
      obtain ⟨n, hn, e⟩ := nI_of2 (M := 16) (n := 16) (by decide) h0 c2
      obtain ⟨r, w', u', v', q', hX, hY⟩ := sr_Ltick hn n 0 w u v (by omega) q
      rw [← e] at hX hY
      revert hX hY
      apply sr_el q
      intro O M t h fr nn aa ag xn xa wd dl ew tm gf wk ww gt g H hX hY
      unfold sr_X17 at hX
      unfold sr_Y15 at hY
      exact br_f c1 (br_t c2 ⟨n + 1, hX _ (br_f c1 (br_t c2 ⟨n + 1, hY _ ⟨rfl, sr_rel q'⟩⟩))⟩)
    · apply sr_el q
      intro O M t h fr nn aa ag xn xa wd dl ew tm gf wk ww gt g H
      exact br_f c1 (br_f c2 (br_f c1 (br_f c2 ⟨rfl, sr_rel (sr_mk g H)⟩)))
theorem i_vc_deliver {k : Nat} {u : SX} {v : SY} (I : i_Rel k u v) (hk : k + 3 ≤ 1540) (v1 : Int32) : wpX_deliver (fun r u' => wpY_deliver (fun r' v' => r' = r ∧ i_Rel (k + 3) u' v') v v1) u v1 := by
  obtain ⟨L, T, D, C, w, N, A, F, q⟩ := I
  apply sr_el q
  intro O M t h fr nn aa ag xn xa wd dl ew tm gf wk ww gt g H
  have hC := g.2.1
  rcases sr_slot v1 hC with ⟨i, hi, rfl⟩ | hb
  · have ic := sr_ic hi hC
    have i24 := sr_n24 hi hC
    by_cases z : wk i = 0
    · unfold wpX_deliver
      refine sr_xsl0 hi hC ?_
      refine br_t rfl (And.intro i24 (br_t (by rw [nI_clamp ic]; exact z) ?_))
      unfold wpY_deliver
      refine sr_ysl0 hi hC ?_
      exact br_t rfl (And.intro i24 (br_t (by rw [nI_clamp ic]; exact z) ⟨rfl, sr_rel (sr_mk g H)⟩))
    · obtain ⟨r, A', F', u', v', q', hX, hY⟩ := sr_Larr (T := T) (D := D) (tm := tm) (gf := gf) hi z g H
      revert hX hY
      apply sr_el q'
      intro O1 M1 t1 h1 fr1 nn1 aa1 ag1 xn1 xa1 wd1 dl1 ew1 tm1 gf1 wk1 ww1 gt1 g1 H1 hX hY
      unfold wpX_deliver
      refine sr_xsl0 hi hC ?_
      refine br_t rfl (And.intro i24 (br_f (by rw [nI_clamp ic]; exact z) ?_))
      refine hX _ ?_
      unfold wpY_deliver
      refine sr_ysl0 hi hC ?_
      refine br_t rfl (And.intro i24 (br_f (by rw [nI_clamp ic]; exact z) ?_))
      refine hY _ ?_
      exact ⟨rfl, sr_rel (sr_mk g1 H1)⟩
  · unfold wpX_deliver
    refine sr_xsl1 hb ?_
    refine br_f (by decide) ?_
    unfold wpY_deliver
    refine sr_ysl1 hb ?_
    exact br_f (by decide) ⟨rfl, sr_rel (sr_mk g H)⟩
theorem i_vc_deliverAll {k : Nat} {u : SX} {v : SY} (I : i_Rel k u v) (hk : k + 3 ≤ 1540) (v1 : Int32) : wpX_deliverAll (fun r u' => wpY_deliverAll (fun r' v' => r' = r ∧ i_Rel (k + 3) u' v') v v1) u v1 := by
  obtain ⟨L, T, D, C, w, N, A, F, q⟩ := I
  rcases sr_sta v1 with ⟨s, hs, rfl⟩ | hb
  · obtain ⟨r, A', F', u', v', q', hX, hY⟩ := sr_Lall hs C 0 0 A F u v (by omega) q
    revert hX hY
    apply sr_el q
    intro O M t h fr nn aa ag xn xa wd dl ew tm gf wk ww gt g H hX hY
    unfold sr_X14 at hX
    unfold sr_Y14 at hY
    unfold wpX_deliverAll
    refine sr_xbs0 hs ?_
    refine br_t rfl ⟨C + 1, hX _ ?_⟩
    unfold wpY_deliverAll
    refine sr_ybs0 hs ?_
    exact br_t rfl ⟨C + 1, hY _ ⟨rfl, sr_rel q'⟩⟩
  · apply sr_el q
    intro O M t h fr nn aa ag xn xa wd dl ew tm gf wk ww gt g H
    unfold wpX_deliverAll
    refine sr_xbs1 hb ?_
    refine br_f (by decide) ?_
    unfold wpY_deliverAll
    refine sr_ybs1 hb ?_
    exact br_f (by decide) ⟨rfl, sr_rel (sr_mk g H)⟩
theorem i_vc_drop {k : Nat} {u : SX} {v : SY} (I : i_Rel k u v) (hk : k + 3 ≤ 1540) (v1 : Int32) : wpX_drop (fun r u' => wpY_drop (fun r' v' => r' = r ∧ i_Rel (k + 3) u' v') v v1) u v1 := by
  obtain ⟨L, T, D, C, w, N, A, F, q⟩ := I
  apply sr_el q
  intro O M t h fr nn aa ag xn xa wd dl ew tm gf wk ww gt g H
  have hC := g.2.1
  rcases sr_slot v1 hC with ⟨i, hi, rfl⟩ | hb
  · have ic := sr_ic hi hC
    have i24 := sr_n24 hi hC
    have er : wk (nI i).toNatClampNeg = wk i := sr_rr ic
    unfold wpX_drop
    refine sr_xsl0 hi hC ?_
    by_cases z : wk i = 0
    · refine br_t rfl (And.intro i24 (nm_r er (br_t z ?_)))
      unfold wpY_drop
      refine sr_ysl0 hi hC ?_
      exact br_t rfl (And.intro i24 (br_t (er.trans z) ⟨rfl, sr_rel (sr_mk g H)⟩))
    · refine br_t rfl (And.intro i24 (nm_r er (br_f z (And.intro i24 (nm_r (sr_ur ic) ?_)))))
      unfold wpY_drop
      refine sr_ysl0 hi hC ?_
      exact br_t rfl (And.intro i24 (br_f (fun y => z (er.symm.trans y)) (And.intro i24 (nm_r er (And.intro i24 (nm_r (sr_ur ic) ⟨rfl, sr_rel (sr_mk g (sr_Hoff H))⟩))))))
  · unfold wpX_drop
    refine sr_xsl1 hb ?_
    refine br_f (by decide) ?_
    unfold wpY_drop
    refine sr_ysl1 hb ?_
    exact br_f (by decide) ⟨rfl, sr_rel (sr_mk g H)⟩
theorem i_vc_dup {k : Nat} {u : SX} {v : SY} (I : i_Rel k u v) (hk : k + 3 ≤ 1540) (v1 : Int32) : wpX_dup (fun r u' => wpY_dup (fun r' v' => r' = r ∧ i_Rel (k + 3) u' v') v v1) u v1 := by
  obtain ⟨L, T, D, C, w, N, A, F, q⟩ := I
  apply sr_el q
  intro O M t h fr nn aa ag xn xa wd dl ew tm gf wk ww gt g H
  have hC := g.2.1
  rcases sr_slot v1 hC with ⟨i, hi, rfl⟩ | hb
  · have ic := sr_ic hi hC
    have i24 := sr_n24 hi hC
    have er : wk (nI i).toNatClampNeg = wk i := sr_rr ic
    unfold wpX_dup
    refine sr_xsl0 hi hC ?_
    by_cases z : wk i = 0
    · refine br_t rfl (And.intro i24 (br_t (er.trans z) ?_))
      unfold wpY_dup
      refine sr_ysl0 hi hC ?_
      exact br_t rfl (And.intro i24 (br_t (er.trans z) ⟨rfl, sr_rel (sr_mk g H)⟩))
    · refine br_t rfl (And.intro i24 (br_f (fun y => z (er.symm.trans y)) ?_))
      rcases sr_fs wk C with ⟨j, hj, j0, jl⟩ | jl
      · have jc := sr_ic hj hC
        have j24 := sr_n24 hj hC
        have w1 : upd wk (nI j).toNatClampNeg (wk (nI i).toNatClampNeg) = upd wk j (wk i) := by rw [er, sr_ur jc]
        have w2 : upd ww (nI j).toNatClampNeg (ww (nI i).toNatClampNeg) = upd ww j (ww i) := by rw [nI_clamp ic, nI_clamp jc]
        have w3 : ∀ f : Nat → Nat, upd (sr_i f) (nI j).toNatClampNeg (sr_i f (nI i).toNatClampNeg) = sr_i (sr_u f j (f i)) := fun f => by rw [sr_rd ic, sr_ui jc]
        refine sr_xfree1 hC hj j0 jl ?_
        refine br_t (nI_pos' jc) (And.intro i24 (And.intro j24 (nm_r w1 (And.intro i24 (And.intro j24 (nm_r (w3 fr) (And.intro i24 (And.intro j24 (nm_r (w3 xn) (And.intro i24 (And.intro j24 (nm_r (w3 xa) (And.intro i24 (And.intro j24 (nm_r w2 (And.intro i24 (And.intro j24 (nm_r (w3 ag) ?_))))))))))))))))))
        unfold wpY_dup
        refine sr_ysl0 hi hC ?_
        refine br_t rfl (And.intro i24 (br_f (fun y => z (er.symm.trans y)) ?_))
        refine sr_yfree1 hC hj j0 jl ?_
        refine br_t (nI_pos' jc) (And.intro i24 (And.intro j24 (nm_r w1 (And.intro i24 (And.intro j24 (nm_r (w3 fr) (And.intro i24 (And.intro j24 (nm_r (w3 nn) (And.intro i24 (And.intro j24 (nm_r (w3 aa) (And.intro i24 (And.intro j24 (nm_r (w3 ag) ?_)))))))))))))))
        exact ⟨rfl, sr_rel (sr_mk g (sr_Hdup hi z H))⟩
      · refine sr_xfree0 hC jl ?_
        refine br_f (by decide) ?_
        unfold wpY_dup
        refine sr_ysl0 hi hC ?_
        refine br_t rfl (And.intro i24 (br_f (fun y => z (er.symm.trans y)) ?_))
        refine sr_yfree0 hC jl ?_
        exact br_f (by decide) ⟨rfl, sr_rel (sr_mk g H)⟩
  · unfold wpX_dup
    refine sr_xsl1 hb ?_
    refine br_f (by decide) ?_
    unfold wpY_dup
    refine sr_ysl1 hb ?_
    exact br_f (by decide) ⟨rfl, sr_rel (sr_mk g H)⟩
end
section
/-! the owed statements: calls that only read -/
theorem sr_sh : ∀ j, j < 4 → ((1 : Int32) <<< (nI j &&& 31)) = nI (2 ^ j) := by decide +kernel
section
variable {L : Nat} {T : Int32} {D : Int32} {C : Nat} {w : Nat} {N : Nat → Nat} {A : Nat → Nat} {F : Nat → Nat} {O : Nat → Nat} {M : Nat → Nat} {t : Nat → Nat} {h : Nat → Nat} {fr : Nat → Nat} {nn : Nat → Nat} {aa : Nat → Nat} {ag : Nat → Nat} {xn : Nat → Nat} {xa : Nat → Nat} {wd : Nat → Int32} {dl : Nat → Int32} {ew : Nat → Int32} {tm : Nat → Int32} {gf : Nat → Int32} {wk : Nat → Int32} {ww : Nat → Int32} {gt : Nat → Int32}
theorem sr_yrs1 {post : Int32 → Prop} {s z j n : Nat} (hs : s < 2) (hF : F s ≤ 128) (h1 : 1 ≤ j) (h3 : j ≤ 3) (k : wY_receiverState_34 post (nI s) (nI (F s)) (nI L) T D (nI C) (nI w) wd (sr_i t) gt (sr_i N) (sr_i A) tm gf wk (sr_i fr) (sr_i nn) (sr_i aa) (sr_i ag) n (nI (z + 2 ^ j * sr_q gt s (F s + j))) (nI (j + 1))) :
    wY_receiverState_34 post (nI s) (nI (F s)) (nI L) T D (nI C) (nI w) wd (sr_i t) gt (sr_i N) (sr_i A) tm gf wk (sr_i fr) (sr_i nn) (sr_i aa) (sr_i ag) (n + 1) (nI z) (nI j) := by
  have c0 : ¬ (3 : Int32) < nI j := nI_nlt (a := 3) h3 (by omega)
  have ea : nI (F s) + nI j = nI (F s + j) := nI_add _ _
  by_cases c1 : F s + j < 128
  · have ei : nI s * 128 + nI (F s) + nI j = nI (s * 128 + (F s + j)) := by
      rw [sr_128, nI_add]; exact congrArg nI (by omega)
    have c2 : ¬ (128 : Int32) ≤ nI (F s) + nI j := by rw [ea]; exact nI_ge (b := 128) c1 (by omega)
    refine br_f c0 (br_f c2 (And.intro (by rw [ei]; exact vp_in_nI (by omega) (by omega)) ?_))
    have ec : (nI s * 128 + nI (F s) + nI j).toNatClampNeg = s * 128 + (F s + j) := by rw [ei]; exact nI_clamp (by omega)
    by_cases c3 : gt (s * 128 + (F s + j)) = 0
    · rw [sr_q0 (fun _ => c3), Nat.mul_zero, Nat.add_zero] at k
      exact br_t (by rw [ec]; exact c3) (nm_r (nI_1 j) k)
    · rw [sr_q1 c1 c3, Nat.mul_one] at k
      have es : nI z + ((1 : Int32) <<< (nI j &&& 31)) = nI (z + 2 ^ j) := by rw [sr_sh j (by omega), nI_add]
      exact br_f (by rw [ec]; exact c3) (nm_r es (nm_r (nI_1 j) k))
  · have c2 : (128 : Int32) ≤ nI (F s) + nI j := by rw [ea]; exact nI_le (a := 128) (by omega) (by omega)
    rw [sr_q0 (fun z => absurd z c1), Nat.mul_zero, Nat.add_zero] at k
    exact br_f c0 (br_t c2 (nm_r (nI_1 j) k))
theorem sr_yrs {post : Int32 → Prop} {s z : Nat} (hs : s < 2) (hF : F s ≤ 128) (fm : sr_FM gt s (F s)) (k : post (nI (z + 2 ^ 1 * sr_q gt s (F s + 1) + 2 ^ 2 * sr_q gt s (F s + 2) + 2 ^ 3 * sr_q gt s (F s + 3)))) :
    wY_receiverState_24 post (nI s) (nI z) (nI L) T D (nI C) (nI w) wd (sr_i t) gt (sr_i N) (sr_i A) tm gf wk (sr_i fr) (sr_i nn) (sr_i aa) (sr_i ag) := by
  unfold wY_receiverState_24
  refine sr_yfm hs fm ?_
  refine ⟨4, sr_yrs1 (j := 1) hs hF (by omega) (by omega) (sr_yrs1 (j := 2) hs hF (by omega) (by omega) (sr_yrs1 (j := 3) hs hF (by omega) (by omega) ?_))⟩
  exact br_t (nI_lt (a := 3) (b := 4) (by omega) (by omega)) k
end
theorem i_vc_clock {k : Nat} {u : SX} {v : SY} (I : i_Rel k u v) (hk : k + 3 ≤ 1540) : wpX_clock (fun r => wpY_clock (fun r' => r' = r ∧ i_Rel (k + 3) u v) v) u := by
  obtain ⟨L, T, D, C, w, N, A, F, q⟩ := I
  apply sr_el q
  intro O M t h fr nn aa ag xn xa wd dl ew tm gf wk ww gt g H
  have R : i_Rel (k + 3) (nI L, T, D, nI C, nI w, sr_i N, sr_i O, wd, sr_i h, sr_i F, dl, ew, sr_i M, tm, gf, wk, sr_i fr, sr_i xn, sr_i xa, ww, sr_i ag) (nI L, T, D, nI C, nI w, wd, sr_i t, gt, sr_i N, sr_i A, tm, gf, wk, sr_i fr, sr_i nn, sr_i aa, sr_i ag) := sr_rel (sr_mk g H)
  exact ⟨rfl, R⟩
theorem i_vc_setting {k : Nat} {u : SX} {v : SY} (I : i_Rel k u v) (hk : k + 3 ≤ 1540) (v1 : Int32) : wpX_setting (fun r => wpY_setting (fun r' => r' = r ∧ i_Rel (k + 3) u v) v v1) u v1 := by
  obtain ⟨L, T, D, C, w, N, A, F, q⟩ := I
  apply sr_el q
  intro O M t h fr nn aa ag xn xa wd dl ew tm gf wk ww gt g H
  have R : i_Rel (k + 3) (nI L, T, D, nI C, nI w, sr_i N, sr_i O, wd, sr_i h, sr_i F, dl, ew, sr_i M, tm, gf, wk, sr_i fr, sr_i xn, sr_i xa, ww, sr_i ag) (nI L, T, D, nI C, nI w, wd, sr_i t, gt, sr_i N, sr_i A, tm, gf, wk, sr_i fr, sr_i nn, sr_i aa, sr_i ag) := sr_rel (sr_mk g H)
  by_cases c0 : v1 = 0
  · exact br_t c0 (br_t c0 ⟨rfl, R⟩)
  · by_cases c1 : v1 = 1
    · exact br_f c0 (br_t c1 (br_f c0 (br_t c1 ⟨rfl, R⟩)))
    · by_cases c2 : v1 = 2
      · exact br_f c0 (br_f c1 (br_t c2 (br_f c0 (br_f c1 (br_t c2 ⟨rfl, R⟩)))))
      · by_cases c3 : v1 = 3
        · exact br_f c0 (br_f c1 (br_f c2 (br_t c3 (br_f c0 (br_f c1 (br_f c2 (br_t c3 ⟨rfl, R⟩)))))))
        · exact br_f c0 (br_f c1 (br_f c2 (br_f c3 (br_f c0 (br_f c1 (br_f c2 (br_f c3 ⟨rfl, R⟩)))))))
theorem i_vc_accepted {k : Nat} {u : SX} {v : SY} (I : i_Rel k u v) (hk : k + 3 ≤ 1540) (v1 : Int32) : wpX_accepted (fun r => wpY_accepted (fun r' => r' = r ∧ i_Rel (k + 3) u v) v v1) u v1 := by
  obtain ⟨L, T, D, C, w, N, A, F, q⟩ := I
  apply sr_el q
  intro O M t h fr nn aa ag xn xa wd dl ew tm gf wk ww gt g H
  have R : i_Rel (k + 3) (nI L, T, D, nI C, nI w, sr_i N, sr_i O, wd, sr_i h, sr_i F, dl, ew, sr_i M, tm, gf, wk, sr_i fr, sr_i xn, sr_i xa, ww, sr_i ag) (nI L, T, D, nI C, nI w, wd, sr_i t, gt, sr_i N, sr_i A, tm, gf, wk, sr_i fr, sr_i nn, sr_i aa, sr_i ag) := sr_rel (sr_mk g H)
  rcases sr_sta v1 with ⟨s, hs, rfl⟩ | hb
  · have s2 := sr_n2 hs
    have sc := sr_sc hs
    obtain ⟨hC, hN, hF, hO, hO4, hL, hw⟩ := sr_G4 hs g
    unfold wpX_accepted
    refine sr_xbs0 hs ?_
    refine br_t rfl ?_
    refine And.intro s2 ?_
    unfold wpY_accepted
    refine sr_ybs0 hs ?_
    refine br_t rfl ?_
    exact And.intro s2 ⟨rfl, R⟩
  · unfold wpX_accepted
    refine sr_xbs1 hb ?_
    refine br_f (by decide) ?_
    unfold wpY_accepted
    refine sr_ybs1 hb ?_
    exact br_f (by decide) ⟨rfl, R⟩
theorem i_vc_acked {k : Nat} {u : SX} {v : SY} (I : i_Rel k u v) (hk : k + 3 ≤ 1540) (v1 : Int32) : wpX_acked (fun r => wpY_acked (fun r' => r' = r ∧ i_Rel (k + 3) u v) v v1) u v1 := by
  obtain ⟨L, T, D, C, w, N, A, F, q⟩ := I
  apply sr_el q
  intro O M t h fr nn aa ag xn xa wd dl ew tm gf wk ww gt g H
  have R : i_Rel (k + 3) (nI L, T, D, nI C, nI w, sr_i N, sr_i O, wd, sr_i h, sr_i F, dl, ew, sr_i M, tm, gf, wk, sr_i fr, sr_i xn, sr_i xa, ww, sr_i ag) (nI L, T, D, nI C, nI w, wd, sr_i t, gt, sr_i N, sr_i A, tm, gf, wk, sr_i fr, sr_i nn, sr_i aa, sr_i ag) := sr_rel (sr_mk g H)
  rcases sr_sta v1 with ⟨s, hs, rfl⟩ | hb
  · have s2 := sr_n2 hs
    have sc := sr_sc hs
    obtain ⟨hC, hN, hF, hO, hO4, hL, hw⟩ := sr_G4 hs g
    unfold wpX_acked
    refine sr_xbs0 hs ?_
    refine br_t rfl ?_
    refine And.intro s2 (And.intro s2 ?_)
    unfold wpY_acked
    refine sr_ybs0 hs ?_
    refine br_t rfl ?_
    refine And.intro s2 ⟨?_, R⟩
    rw [sr_rd sc, sr_rd sc, sr_rd sc, pk_sub (by omega)]; exact congrArg nI (by omega)
  · unfold wpX_acked
    refine sr_xbs1 hb ?_
    refine br_f (by decide) ?_
    unfold wpY_acked
    refine sr_ybs1 hb ?_
    exact br_f (by decide) ⟨rfl, R⟩
theorem i_vc_delivered {k : Nat} {u : SX} {v : SY} (I : i_Rel k u v) (hk : k + 3 ≤ 1540) (v1 : Int32) : wpX_delivered (fun r => wpY_delivered (fun r' => r' = r ∧ i_Rel (k + 3) u v) v v1) u v1 := by
  obtain ⟨L, T, D, C, w, N, A, F, q⟩ := I
  apply sr_el q
  intro O M t h fr nn aa ag xn xa wd dl ew tm gf wk ww gt g H
  have R : i_Rel (k + 3) (nI L, T, D, nI C, nI w, sr_i N, sr_i O, wd, sr_i h, sr_i F, dl, ew, sr_i M, tm, gf, wk, sr_i fr, sr_i xn, sr_i xa, ww, sr_i ag) (nI L, T, D, nI C, nI w, wd, sr_i t, gt, sr_i N, sr_i A, tm, gf, wk, sr_i fr, sr_i nn, sr_i aa, sr_i ag) := sr_rel (sr_mk g H)
  rcases sr_sta v1 with ⟨s, hs, rfl⟩ | hb
  · have s2 := sr_n2 hs
    have sc := sr_sc hs
    obtain ⟨hC, hN, hF, hO, hO4, hL, hw⟩ := sr_G4 hs g
    unfold wpX_delivered
    refine sr_xbs0 hs ?_
    refine br_t rfl ?_
    refine And.intro s2 ?_
    unfold wpY_delivered
    refine sr_ybs0 hs ?_
    refine br_t rfl ?_
    refine sr_yfm hs (sr_GF hs g) ?_
    exact ⟨(sr_rd sc).symm, R⟩
  · unfold wpX_delivered
    refine sr_xbs1 hb ?_
    refine br_f (by decide) ?_
    unfold wpY_delivered
    refine sr_ybs1 hb ?_
    exact br_f (by decide) ⟨rfl, R⟩
theorem i_vc_acceptedWord {k : Nat} {u : SX} {v : SY} (I : i_Rel k u v) (hk : k + 3 ≤ 1540) (v1 : Int32) (v2 : Int32) : wpX_acceptedWord (fun r => wpY_acceptedWord (fun r' => r' = r ∧ i_Rel (k + 3) u v) v v1 v2) u v1 v2 := by
  obtain ⟨L, T, D, C, w, N, A, F, q⟩ := I
  apply sr_el q
  intro O M t h fr nn aa ag xn xa wd dl ew tm gf wk ww gt g H
  have R : i_Rel (k + 3) (nI L, T, D, nI C, nI w, sr_i N, sr_i O, wd, sr_i h, sr_i F, dl, ew, sr_i M, tm, gf, wk, sr_i fr, sr_i xn, sr_i xa, ww, sr_i ag) (nI L, T, D, nI C, nI w, wd, sr_i t, gt, sr_i N, sr_i A, tm, gf, wk, sr_i fr, sr_i nn, sr_i aa, sr_i ag) := sr_rel (sr_mk g H)
  rcases sr_sta v1 with ⟨s, hs, rfl⟩ | hb
  · have s2 := sr_n2 hs
    have sc := sr_sc hs
    obtain ⟨hC, hN, hF, hO, hO4, hL, hw⟩ := sr_G4 hs g
    unfold wpX_acceptedWord
    refine sr_xbs0 hs ?_
    refine br_t rfl ?_
    by_cases c1 : v2 < 0
    · refine br_t c1 ?_
      unfold wpY_acceptedWord
      refine sr_ybs0 hs ?_
      refine br_t rfl ?_
      exact br_t c1 ⟨rfl, R⟩
    · obtain ⟨j, hj, rfl⟩ := nI_of c1
      refine br_f c1 (And.intro s2 ?_)
      by_cases c2 : j < N s
      · have c3 : nI j < sr_i N (nI s).toNatClampNeg := by rw [sr_rd sc]; exact nI_lt c2 (by omega)
        have j8 := sr_n128 hs (show j < 128 by omega)
        refine br_t c3 (And.intro j8 ?_)
        unfold wpY_acceptedWord
        refine sr_ybs0 hs ?_
        refine br_t rfl ?_
        exact br_f c1 (And.intro s2 (br_t c3 (And.intro j8 ⟨rfl, R⟩)))
      · have c3 : ¬ nI j < sr_i N (nI s).toNatClampNeg := by rw [sr_rd sc]; exact nI_nlt (by omega) hj
        refine br_f c3 ?_
        unfold wpY_acceptedWord
        refine sr_ybs0 hs ?_
        refine br_t rfl ?_
        exact br_f c1 (And.intro s2 (br_f c3 ⟨rfl, R⟩))
  · unfold wpX_acceptedWord
    refine sr_xbs1 hb ?_
    refine br_f (by decide) ?_
    unfold wpY_acceptedWord
    refine sr_ybs1 hb ?_
    exact br_f (by decide) ⟨rfl, R⟩
theorem i_vc_deliveredWord {k : Nat} {u : SX} {v : SY} (I : i_Rel k u v) (hk : k + 3 ≤ 1540) (v1 : Int32) (v2 : Int32) : wpX_deliveredWord (fun r => wpY_deliveredWord (fun r' => r' = r ∧ i_Rel (k + 3) u v) v v1 v2) u v1 v2 := by
  obtain ⟨L, T, D, C, w, N, A, F, q⟩ := I
  apply sr_el q
  intro O M t h fr nn aa ag xn xa wd dl ew tm gf wk ww gt g H
  have R : i_Rel (k + 3) (nI L, T, D, nI C, nI w, sr_i N, sr_i O, wd, sr_i h, sr_i F, dl, ew, sr_i M, tm, gf, wk, sr_i fr, sr_i xn, sr_i xa, ww, sr_i ag) (nI L, T, D, nI C, nI w, wd, sr_i t, gt, sr_i N, sr_i A, tm, gf, wk, sr_i fr, sr_i nn, sr_i aa, sr_i ag) := sr_rel (sr_mk g H)
  rcases sr_sta v1 with ⟨s, hs, rfl⟩ | hb
  · have s2 := sr_n2 hs
    have sc := sr_sc hs
    obtain ⟨hC, hN, hF, hO, hO4, hL, hw⟩ := sr_G4 hs g
    unfold wpX_deliveredWord
    refine sr_xbs0 hs ?_
    refine br_t rfl ?_
    have fm := sr_GF hs g
    by_cases c1 : v2 < 0
    · refine br_t c1 ?_
      unfold wpY_deliveredWord
      refine sr_ybs0 hs ?_
      refine br_t rfl ?_
      exact br_t c1 ⟨rfl, R⟩
    · obtain ⟨j, hj, rfl⟩ := nI_of c1
      refine br_f c1 (And.intro s2 ?_)
      by_cases c2 : j < F s
      · have c3 : nI j < sr_i F (nI s).toNatClampNeg := by rw [sr_rd sc]; exact nI_lt c2 (by omega)
        have j8 : j < 128 := by omega
        obtain ⟨d, e⟩ : ∃ d, s + d = 1 := ⟨1 - s, by omega⟩
        have ed : (1 : Int32) - nI s = nI d := by
          show nI 1 - nI s = nI d
          rw [pk_sub (by omega)]; exact congrArg nI (by omega)
        have hd : d < 2 := by omega
        have hr := (g.2.2.2 s d e).2.2.2.2.2.1 j c2
        refine br_t c3 (And.intro (sr_n128 hs j8) ?_)
        unfold wpY_deliveredWord
        refine sr_ybs0 hs ?_
        refine br_t rfl ?_
        refine br_f c1 ?_
        refine sr_yfm hs fm ?_
        refine br_t (nI_lt c2 (by omega)) (And.intro (by rw [ed]; exact sr_n128 hd j8) ⟨?_, R⟩)
        rw [ed, sr_k128 hd j8, sr_k128 hs j8]; exact hr.symm
      · have c3 : ¬ nI j < sr_i F (nI s).toNatClampNeg := by rw [sr_rd sc]; exact nI_nlt (by omega) hj
        refine br_f c3 ?_
        unfold wpY_deliveredWord
        refine sr_ybs0 hs ?_
        refine br_t rfl ?_
        refine br_f c1 ?_
        refine sr_yfm hs fm ?_
        exact br_f (nI_nlt (by omega) hj) ⟨rfl, R⟩
  · unfold wpX_deliveredWord
    refine sr_xbs1 hb ?_
    refine br_f (by decide) ?_
    unfold wpY_deliveredWord
    refine sr_ybs1 hb ?_
    exact br_f (by decide) ⟨rfl, R⟩
theorem i_vc_receiverState {k : Nat} {u : SX} {v : SY} (I : i_Rel k u v) (hk : k + 3 ≤ 1540) (v1 : Int32) : wpX_receiverState (fun r => wpY_receiverState (fun r' => r' = r ∧ i_Rel (k + 3) u v) v v1) u v1 := by
  obtain ⟨L, T, D, C, w, N, A, F, q⟩ := I
  apply sr_el q
  intro O M t h fr nn aa ag xn xa wd dl ew tm gf wk ww gt g H
  have R : i_Rel (k + 3) (nI L, T, D, nI C, nI w, sr_i N, sr_i O, wd, sr_i h, sr_i F, dl, ew, sr_i M, tm, gf, wk, sr_i fr, sr_i xn, sr_i xa, ww, sr_i ag) (nI L, T, D, nI C, nI w, wd, sr_i t, gt, sr_i N, sr_i A, tm, gf, wk, sr_i fr, sr_i nn, sr_i aa, sr_i ag) := sr_rel (sr_mk g H)
  rcases sr_sta v1 with ⟨s, hs, rfl⟩ | hb
  · have s2 := sr_n2 hs
    have sc := sr_sc hs
    obtain ⟨hC, hN, hF, hO, hO4, hL, hw⟩ := sr_G4 hs g
    unfold wpX_receiverState
    refine sr_xbs0 hs ?_
    refine br_t rfl ?_
    obtain ⟨d, e⟩ : ∃ d, s + d = 1 := ⟨1 - s, by omega⟩
    have hM := (g.2.2.2 s d e).2.2.2.2.2.2.2
    have em : sr_i M (nI s).toNatClampNeg = nI (M s) := sr_rd sc
    refine And.intro s2 (nm_r em (And.intro s2 ?_))
    by_cases c : gf s = 0
    · refine br_t (by rw [nI_clamp sc]; exact c) ?_
      unfold wpY_receiverState
      refine sr_ybs0 hs ?_
      refine br_t rfl ?_
      refine And.intro s2 (br_t (by rw [nI_clamp sc]; exact c) ?_)
      refine sr_yrs (z := 0) hs hF (sr_GF hs g) ⟨congrArg nI (by omega), R⟩
    · refine br_f (by rw [nI_clamp sc]; exact c) (nm_r (nI_1 (M s)) ?_)
      unfold wpY_receiverState
      refine sr_ybs0 hs ?_
      refine br_t rfl ?_
      refine And.intro s2 (br_f (by rw [nI_clamp sc]; exact c) ?_)
      refine sr_yrs (z := 1) hs hF (sr_GF hs g) ⟨congrArg nI (by omega), R⟩
  · unfold wpX_receiverState
    refine sr_xbs1 hb ?_
    refine br_f (by decide) ?_
    unfold wpY_receiverState
    refine sr_ybs1 hb ?_
    exact br_f (by decide) ⟨rfl, R⟩
theorem i_vc_timerLeft {k : Nat} {u : SX} {v : SY} (I : i_Rel k u v) (hk : k + 3 ≤ 1540) (v1 : Int32) (v2 : Int32) : wpX_timerLeft (fun r => wpY_timerLeft (fun r' => r' = r ∧ i_Rel (k + 3) u v) v v1 v2) u v1 v2 := by
  obtain ⟨L, T, D, C, w, N, A, F, q⟩ := I
  apply sr_el q
  intro O M t h fr nn aa ag xn xa wd dl ew tm gf wk ww gt g H
  have R : i_Rel (k + 3) (nI L, T, D, nI C, nI w, sr_i N, sr_i O, wd, sr_i h, sr_i F, dl, ew, sr_i M, tm, gf, wk, sr_i fr, sr_i xn, sr_i xa, ww, sr_i ag) (nI L, T, D, nI C, nI w, wd, sr_i t, gt, sr_i N, sr_i A, tm, gf, wk, sr_i fr, sr_i nn, sr_i aa, sr_i ag) := sr_rel (sr_mk g H)
  rcases sr_sta v1 with ⟨s, hs, rfl⟩ | hb
  · have s2 := sr_n2 hs
    have sc := sr_sc hs
    obtain ⟨hC, hN, hF, hO, hO4, hL, hw⟩ := sr_G4 hs g
    unfold wpX_timerLeft
    refine sr_xbs0 hs ?_
    refine br_t rfl ?_
    by_cases c1 : v2 < 0
    · refine br_t c1 ?_
      unfold wpY_timerLeft
      refine sr_ybs0 hs ?_
      refine br_t rfl ?_
      exact br_t c1 ⟨rfl, R⟩
    · by_cases c2 : v2 ≤ 4
      · refine br_f c1 (br_t c2 ?_)
        by_cases c3 : v2 = 4
        · refine br_t c3 (And.intro s2 ?_)
          unfold wpY_timerLeft
          refine sr_ybs0 hs ?_
          refine br_t rfl ?_
          exact br_f c1 (br_t c2 (br_t c3 (And.intro s2 ⟨rfl, R⟩)))
        · refine br_f c3 (And.intro s2 ?_)
          obtain ⟨j, hj, rfl⟩ := nI_of c1
          have hj4 : j ≤ 4 := (nI_leI (b := 4) hj (by omega)).mp c2
          have ej : sr_i A (nI s).toNatClampNeg + nI j = nI (A s + j) := by rw [sr_rd sc, nI_add]
          by_cases c4 : j < O s
          · have ht := (g.2.2.2 s (1 - s) (by omega)).2.1
            have hv := ht.2 (A s + j) (by omega) (by omega)
            have hv2 := ht.1 (A s + j) (by omega)
            have p8 : A s + j < 128 := by omega
            have ef : sr_i N (nI s).toNatClampNeg - sr_i O (nI s).toNatClampNeg = nI (A s) := by
              rw [sr_rd sc, sr_rd sc, pk_sub (by omega)]; exact congrArg nI (by omega)
            refine br_t (by rw [sr_rd sc]; exact nI_lt c4 (by omega)) (And.intro s2 (And.intro s2 ?_))
            rw [ef]
            dsimp only
            rw [nI_add (A s) j]
            refine sr_xsh hs (by omega) hv hv2 ?_
            unfold wpY_timerLeft
            refine sr_ybs0 hs ?_
            refine br_t rfl ?_
            refine br_f c1 (br_t c2 (br_f c3 (And.intro s2 (nm_r ej (And.intro s2 (br_f (by rw [sr_rd sc]; exact nI_ge (by omega) (by omega)) (And.intro (sr_n128 hs p8) ⟨?_, R⟩)))))))
            rw [sr_r128 hs p8, pk_sub hv2]
          · refine br_f (by rw [sr_rd sc]; exact nI_nlt (by omega) (by omega)) ?_
            unfold wpY_timerLeft
            refine sr_ybs0 hs ?_
            refine br_t rfl ?_
            exact br_f c1 (br_t c2 (br_f c3 (And.intro s2 (nm_r ej (And.intro s2 (br_t (by rw [sr_rd sc]; exact nI_le (by omega) (by omega)) ⟨rfl, R⟩))))))
      · refine br_f c1 (br_f c2 ?_)
        unfold wpY_timerLeft
        refine sr_ybs0 hs ?_
        refine br_t rfl ?_
        exact br_f c1 (br_f c2 ⟨rfl, R⟩)
  · unfold wpX_timerLeft
    refine sr_xbs1 hb ?_
    refine br_f (by decide) ?_
    unfold wpY_timerLeft
    refine sr_ybs1 hb ?_
    exact br_f (by decide) ⟨rfl, R⟩
theorem i_vc_holdLeft {k : Nat} {u : SX} {v : SY} (I : i_Rel k u v) (hk : k + 3 ≤ 1540) (v1 : Int32) (v2 : Int32) : wpX_holdLeft (fun r => wpY_holdLeft (fun r' => r' = r ∧ i_Rel (k + 3) u v) v v1 v2) u v1 v2 := by
  obtain ⟨L, T, D, C, w, N, A, F, q⟩ := I
  apply sr_el q
  intro O M t h fr nn aa ag xn xa wd dl ew tm gf wk ww gt g H
  have R : i_Rel (k + 3) (nI L, T, D, nI C, nI w, sr_i N, sr_i O, wd, sr_i h, sr_i F, dl, ew, sr_i M, tm, gf, wk, sr_i fr, sr_i xn, sr_i xa, ww, sr_i ag) (nI L, T, D, nI C, nI w, wd, sr_i t, gt, sr_i N, sr_i A, tm, gf, wk, sr_i fr, sr_i nn, sr_i aa, sr_i ag) := sr_rel (sr_mk g H)
  rcases sr_sta v1 with ⟨s, hs, rfl⟩ | hb
  · have s2 := sr_n2 hs
    have sc := sr_sc hs
    obtain ⟨hC, hN, hF, hO, hO4, hL, hw⟩ := sr_G4 hs g
    unfold wpX_holdLeft
    refine sr_xbs0 hs ?_
    refine br_t rfl ?_
    by_cases c1 : v2 < 0
    · refine br_t c1 ?_
      unfold wpY_holdLeft
      refine sr_ybs0 hs ?_
      refine br_t rfl ?_
      exact br_t c1 ⟨rfl, R⟩
    · by_cases c2 : v2 < 12
      · refine br_f c1 (br_t c2 (And.intro s2 ?_))
        obtain ⟨j, hj, rfl⟩ := nI_of c1
        have hj12 : j < 12 := (nI_ltI (b := 12) hj (by omega)).mp c2
        have ea : sr_i N (nI s).toNatClampNeg + nI j = nI (N s + j) := by rw [sr_rd sc, nI_add]
        rw [ea]
        by_cases c4 : N s + j < 12
        · refine sr_xhold0 c4 ?_
          unfold wpY_holdLeft
          refine sr_ybs0 hs ?_
          refine br_t rfl ?_
          have z : ¬ (0 : Int32) ≤ sr_i N (nI s).toNatClampNeg + nI j - 12 := by
            rw [ea]; exact Int32.not_le.mpr (pk_sneg (b := 12) (by omega) c4)
          exact br_f c1 (br_t c2 (And.intro s2 (nm_e (br_f z ⟨rfl, R⟩))))
        · have ht := (g.2.2.2 s (1 - s) (by omega)).2.1
          have hv := ht.2 (N s + j - 12) (by omega) (by omega)
          have hv2 := ht.1 (N s + j - 12) (by omega)
          have p8 : N s + j - 12 < 128 := by omega
          refine sr_xhold1 hs (by omega) (by omega) hL hw hv hv2 ?_
          unfold wpY_holdLeft
          refine sr_ybs0 hs ?_
          refine br_t rfl ?_
          have e1 : sr_i N (nI s).toNatClampNeg + nI j - 12 = nI (N s + j - 12) := by
            rw [ea]; exact pk_sub (b := 12) (by omega)
          refine br_f c1 (br_t c2 (And.intro s2 (nm_r e1 (br_t (nI_pos' (by omega)) (And.intro (sr_n128 hs p8) ?_)))))
          have e2 : (2 : Int32) * nI L + 1 = nI (2 * L + 1) := by
            show nI 2 * nI L + 1 = _
            rw [pk_mul, nI_1]
          have e4 : nI w - sr_i t (nI s * 128 + nI (N s + j - 12)).toNatClampNeg = nI (w - t (s * 128 + (N s + j - 12))) := by rw [sr_r128 hs p8, pk_sub hv2]
          by_cases z : w - t (s * 128 + (N s + j - 12)) ≤ 2 * L
          · have e3 : (2 : Int32) * nI L + 1 - (nI w - sr_i t (nI s * 128 + nI (N s + j - 12)).toNatClampNeg) = nI (2 * L + 1 - (w - t (s * 128 + (N s + j - 12)))) := by rw [e4, e2, pk_sub (by omega)]
            exact nm_r e3 (br_f (nI_nle (by omega) (by omega)) ⟨rfl, R⟩)
          · have e3 : (2 : Int32) * nI L + 1 - (nI w - sr_i t (nI s * 128 + nI (N s + j - 12)).toNatClampNeg) ≤ 0 := by
              rw [e4, e2]
              by_cases y : w - t (s * 128 + (N s + j - 12)) = 2 * L + 1
              · rw [y, pk_sub (Nat.le_refl _), Nat.sub_self]; decide
              · exact Int32.le_of_lt (pk_sneg (by omega) (by omega))
            refine nm_e (br_t e3 ⟨?_, R⟩)
            rw [show 2 * L + 1 - (w - t (s * 128 + (N s + j - 12))) = 0 by omega]; rfl
      · refine br_f c1 (br_f c2 ?_)
        unfold wpY_holdLeft
        refine sr_ybs0 hs ?_
        refine br_t rfl ?_
        exact br_f c1 (br_f c2 ⟨rfl, R⟩)
  · unfold wpX_holdLeft
    refine sr_xbs1 hb ?_
    refine br_f (by decide) ?_
    unfold wpY_holdLeft
    refine sr_ybs1 hb ?_
    exact br_f (by decide) ⟨rfl, R⟩
theorem i_vc_frameKind {k : Nat} {u : SX} {v : SY} (I : i_Rel k u v) (hk : k + 3 ≤ 1540) (v1 : Int32) : wpX_frameKind (fun r => wpY_frameKind (fun r' => r' = r ∧ i_Rel (k + 3) u v) v v1) u v1 := by
  obtain ⟨L, T, D, C, w, N, A, F, q⟩ := I
  apply sr_el q
  intro O M t h fr nn aa ag xn xa wd dl ew tm gf wk ww gt g H
  have R : i_Rel (k + 3) (nI L, T, D, nI C, nI w, sr_i N, sr_i O, wd, sr_i h, sr_i F, dl, ew, sr_i M, tm, gf, wk, sr_i fr, sr_i xn, sr_i xa, ww, sr_i ag) (nI L, T, D, nI C, nI w, wd, sr_i t, gt, sr_i N, sr_i A, tm, gf, wk, sr_i fr, sr_i nn, sr_i aa, sr_i ag) := sr_rel (sr_mk g H)
  have hC := g.2.1
  rcases sr_slot v1 hC with ⟨i, hi, rfl⟩ | hb
  · have ic := sr_ic hi hC
    have i24 := sr_n24 hi hC
    have er : wk (nI i).toNatClampNeg = wk i := sr_rr ic
    unfold wpX_frameKind
    refine sr_xsl0 hi hC ?_
    refine br_t rfl (And.intro i24 ?_)
    unfold wpY_frameKind
    refine sr_ysl0 hi hC ?_
    refine br_t rfl (And.intro i24 ?_)
    exact ⟨rfl, R⟩
  · unfold wpX_frameKind
    refine sr_xsl1 hb ?_
    refine br_f (by decide) ?_
    unfold wpY_frameKind
    refine sr_ysl1 hb ?_
    exact br_f (by decide) ⟨rfl, R⟩
theorem i_vc_frameTo {k : Nat} {u : SX} {v : SY} (I : i_Rel k u v) (hk : k + 3 ≤ 1540) (v1 : Int32) : wpX_frameTo (fun r => wpY_frameTo (fun r' => r' = r ∧ i_Rel (k + 3) u v) v v1) u v1 := by
  obtain ⟨L, T, D, C, w, N, A, F, q⟩ := I
  apply sr_el q
  intro O M t h fr nn aa ag xn xa wd dl ew tm gf wk ww gt g H
  have R : i_Rel (k + 3) (nI L, T, D, nI C, nI w, sr_i N, sr_i O, wd, sr_i h, sr_i F, dl, ew, sr_i M, tm, gf, wk, sr_i fr, sr_i xn, sr_i xa, ww, sr_i ag) (nI L, T, D, nI C, nI w, wd, sr_i t, gt, sr_i N, sr_i A, tm, gf, wk, sr_i fr, sr_i nn, sr_i aa, sr_i ag) := sr_rel (sr_mk g H)
  have hC := g.2.1
  rcases sr_slot v1 hC with ⟨i, hi, rfl⟩ | hb
  · have ic := sr_ic hi hC
    have i24 := sr_n24 hi hC
    have er : wk (nI i).toNatClampNeg = wk i := sr_rr ic
    by_cases z : wk i = 0
    · unfold wpX_frameTo
      refine sr_xnf2 hi hC z ?_
      refine br_f (by decide) ?_
      unfold wpY_frameTo
      refine sr_ysl0 hi hC ?_
      refine br_t rfl (And.intro i24 ?_)
      exact br_t (er.trans z) ⟨rfl, R⟩
    · unfold wpX_frameTo
      refine sr_xnf0 hi hC z ?_
      refine br_t rfl (And.intro i24 ?_)
      unfold wpY_frameTo
      refine sr_ysl0 hi hC ?_
      refine br_t rfl (And.intro i24 ?_)
      exact br_f (fun y => z (er.symm.trans y)) (And.intro i24 ⟨rfl, R⟩)
  · unfold wpX_frameTo
    refine sr_xnf1 hb ?_
    refine br_f (by decide) ?_
    unfold wpY_frameTo
    refine sr_ysl1 hb ?_
    exact br_f (by decide) ⟨rfl, R⟩
theorem i_vc_frameNumber {k : Nat} {u : SX} {v : SY} (I : i_Rel k u v) (hk : k + 3 ≤ 1540) (v1 : Int32) : wpX_frameNumber (fun r => wpY_frameNumber (fun r' => r' = r ∧ i_Rel (k + 3) u v) v v1) u v1 := by
  obtain ⟨L, T, D, C, w, N, A, F, q⟩ := I
  apply sr_el q
  intro O M t h fr nn aa ag xn xa wd dl ew tm gf wk ww gt g H
  have R : i_Rel (k + 3) (nI L, T, D, nI C, nI w, sr_i N, sr_i O, wd, sr_i h, sr_i F, dl, ew, sr_i M, tm, gf, wk, sr_i fr, sr_i xn, sr_i xa, ww, sr_i ag) (nI L, T, D, nI C, nI w, wd, sr_i t, gt, sr_i N, sr_i A, tm, gf, wk, sr_i fr, sr_i nn, sr_i aa, sr_i ag) := sr_rel (sr_mk g H)
  have hC := g.2.1
  rcases sr_slot v1 hC with ⟨i, hi, rfl⟩ | hb
  · have ic := sr_ic hi hC
    have i24 := sr_n24 hi hC
    have er : wk (nI i).toNatClampNeg = wk i := sr_rr ic
    by_cases z : wk i = 0
    · unfold wpX_frameNumber
      refine sr_xnf2 hi hC z ?_
      refine br_f (by decide) ?_
      unfold wpY_frameNumber
      refine sr_ysl0 hi hC ?_
      refine br_t rfl (And.intro i24 ?_)
      exact br_f (fun y => by rw [er, z] at y; exact absurd y (by decide)) ⟨rfl, R⟩
    · unfold wpX_frameNumber
      refine sr_xnf0 hi hC z ?_
      refine br_t rfl (And.intro i24 ?_)
      by_cases y : wk i = 1
      · obtain ⟨hs, hP⟩ := H i hi z
        obtain ⟨p1, p2, p3, p4, p5, p6⟩ := hP (1 - fr i) (by omega)
        obtain ⟨q1, q2, q3, q4, q5⟩ := p6 y
        obtain ⟨-, hN, hF, -⟩ := sr_G4 hs g
        refine br_t (er.trans y) (And.intro i24 ?_)
        unfold wpY_frameNumber
        refine sr_ysl0 hi hC ?_
        refine br_t rfl (And.intro i24 ?_)
        refine br_t (er.trans y) (And.intro i24 (And.intro (by decide) ⟨?_, R⟩))
        rw [sr_rd ic, sr_rd ic, q1]
        exact pk_rem (d := 16) (by omega) (by omega) (by omega)
      · refine br_f (fun q => y (er.symm.trans q)) ?_
        unfold wpY_frameNumber
        refine sr_ysl0 hi hC ?_
        refine br_t rfl (And.intro i24 ?_)
        exact br_f (fun q => y (er.symm.trans q)) ⟨rfl, R⟩
  · unfold wpX_frameNumber
    refine sr_xnf1 hb ?_
    refine br_f (by decide) ?_
    unfold wpY_frameNumber
    refine sr_ysl1 hb ?_
    exact br_f (by decide) ⟨rfl, R⟩
theorem i_vc_frameAck {k : Nat} {u : SX} {v : SY} (I : i_Rel k u v) (hk : k + 3 ≤ 1540) (v1 : Int32) : wpX_frameAck (fun r => wpY_frameAck (fun r' => r' = r ∧ i_Rel (k + 3) u v) v v1) u v1 := by
  obtain ⟨L, T, D, C, w, N, A, F, q⟩ := I
  apply sr_el q
  intro O M t h fr nn aa ag xn xa wd dl ew tm gf wk ww gt g H
  have R : i_Rel (k + 3) (nI L, T, D, nI C, nI w, sr_i N, sr_i O, wd, sr_i h, sr_i F, dl, ew, sr_i M, tm, gf, wk, sr_i fr, sr_i xn, sr_i xa, ww, sr_i ag) (nI L, T, D, nI C, nI w, wd, sr_i t, gt, sr_i N, sr_i A, tm, gf, wk, sr_i fr, sr_i nn, sr_i aa, sr_i ag) := sr_rel (sr_mk g H)
  have hC := g.2.1
  rcases sr_slot v1 hC with ⟨i, hi, rfl⟩ | hb
  · have ic := sr_ic hi hC
    have i24 := sr_n24 hi hC
    have er : wk (nI i).toNatClampNeg = wk i := sr_rr ic
    by_cases z : wk i = 0
    · unfold wpX_frameAck
      refine sr_xnf2 hi hC z ?_
      refine br_f (by decide) ?_
      unfold wpY_frameAck
      refine sr_ysl0 hi hC ?_
      refine br_t rfl (And.intro i24 ?_)
      exact br_t (er.trans z) ⟨rfl, R⟩
    · unfold wpX_frameAck
      refine sr_xnf0 hi hC z ?_
      refine br_t rfl (And.intro i24 ?_)
      obtain ⟨hs, hP⟩ := H i hi z
      obtain ⟨p1, p2, p3, p4, p5, p6⟩ := hP (1 - fr i) (by omega)
      obtain ⟨-, hN, hF, -⟩ := sr_G4 hs g
      unfold wpY_frameAck
      refine sr_ysl0 hi hC ?_
      refine br_t rfl (And.intro i24 ?_)
      refine br_f (fun y => z (er.symm.trans y)) (And.intro i24 (And.intro (by decide) ⟨?_, R⟩))
      rw [sr_rd ic, sr_rd ic, p2]
      exact pk_rem (d := 16) (by omega) (by omega) (by omega)
  · unfold wpX_frameAck
    refine sr_xnf1 hb ?_
    refine br_f (by decide) ?_
    unfold wpY_frameAck
    refine sr_ysl1 hb ?_
    exact br_f (by decide) ⟨rfl, R⟩
theorem i_vc_frameWord {k : Nat} {u : SX} {v : SY} (I : i_Rel k u v) (hk : k + 3 ≤ 1540) (v1 : Int32) : wpX_frameWord (fun r => wpY_frameWord (fun r' => r' = r ∧ i_Rel (k + 3) u v) v v1) u v1 := by
  obtain ⟨L, T, D, C, w, N, A, F, q⟩ := I
  apply sr_el q
  intro O M t h fr nn aa ag xn xa wd dl ew tm gf wk ww gt g H
  have R : i_Rel (k + 3) (nI L, T, D, nI C, nI w, sr_i N, sr_i O, wd, sr_i h, sr_i F, dl, ew, sr_i M, tm, gf, wk, sr_i fr, sr_i xn, sr_i xa, ww, sr_i ag) (nI L, T, D, nI C, nI w, wd, sr_i t, gt, sr_i N, sr_i A, tm, gf, wk, sr_i fr, sr_i nn, sr_i aa, sr_i ag) := sr_rel (sr_mk g H)
  have hC := g.2.1
  rcases sr_slot v1 hC with ⟨i, hi, rfl⟩ | hb
  · have ic := sr_ic hi hC
    have i24 := sr_n24 hi hC
    have er : wk (nI i).toNatClampNeg = wk i := sr_rr ic
    by_cases z : wk i = 0
    · unfold wpX_frameWord
      refine sr_xnf2 hi hC z ?_
      refine br_f (by decide) ?_
      unfold wpY_frameWord
      refine sr_ysl0 hi hC ?_
      refine br_t rfl (And.intro i24 ?_)
      exact br_f (fun y => by rw [er, z] at y; exact absurd y (by decide)) ⟨rfl, R⟩
    · unfold wpX_frameWord
      refine sr_xnf0 hi hC z ?_
      refine br_t rfl (And.intro i24 ?_)
      by_cases y : wk i = 1
      · obtain ⟨hs, hP⟩ := H i hi z
        obtain ⟨p1, p2, p3, p4, p5, p6⟩ := hP (1 - fr i) (by omega)
        obtain ⟨q1, q2, q3, q4, q5⟩ := p6 y
        obtain ⟨-, hN, hF, -⟩ := sr_G4 hs g
        have n8 : nn i < 128 := by omega
        refine br_t (er.trans y) (And.intro i24 ?_)
        unfold wpY_frameWord
        refine sr_ysl0 hi hC ?_
        refine br_t rfl (And.intro i24 ?_)
        have e1 : sr_i fr (nI i).toNatClampNeg * 128 + sr_i nn (nI i).toNatClampNeg = nI (fr i * 128 + nn i) := by rw [sr_rd ic, sr_rd ic, sr_128]
        refine br_t (er.trans y) (And.intro i24 (And.intro i24 (And.intro (by rw [e1]; exact vp_in_nI (by omega) (by omega)) ⟨?_, R⟩)))
        rw [e1, nI_clamp (by omega), nI_clamp ic]; exact q5.symm
      · refine br_f (fun q => y (er.symm.trans q)) ?_
        unfold wpY_frameWord
        refine sr_ysl0 hi hC ?_
        refine br_t rfl (And.intro i24 ?_)
        exact br_f (fun q => y (er.symm.trans q)) ⟨rfl, R⟩
  · unfold wpX_frameWord
    refine sr_xnf1 hb ?_
    refine br_f (by decide) ?_
    unfold wpY_frameWord
    refine sr_ysl1 hb ?_
    exact br_f (by decide) ⟨rfl, R⟩
theorem i_vc_frameAge {k : Nat} {u : SX} {v : SY} (I : i_Rel k u v) (hk : k + 3 ≤ 1540) (v1 : Int32) : wpX_frameAge (fun r => wpY_frameAge (fun r' => r' = r ∧ i_Rel (k + 3) u v) v v1) u v1 := by
  obtain ⟨L, T, D, C, w, N, A, F, q⟩ := I
  apply sr_el q
  intro O M t h fr nn aa ag xn xa wd dl ew tm gf wk ww gt g H
  have R : i_Rel (k + 3) (nI L, T, D, nI C, nI w, sr_i N, sr_i O, wd, sr_i h, sr_i F, dl, ew, sr_i M, tm, gf, wk, sr_i fr, sr_i xn, sr_i xa, ww, sr_i ag) (nI L, T, D, nI C, nI w, wd, sr_i t, gt, sr_i N, sr_i A, tm, gf, wk, sr_i fr, sr_i nn, sr_i aa, sr_i ag) := sr_rel (sr_mk g H)
  have hC := g.2.1
  rcases sr_slot v1 hC with ⟨i, hi, rfl⟩ | hb
  · have ic := sr_ic hi hC
    have i24 := sr_n24 hi hC
    have er : wk (nI i).toNatClampNeg = wk i := sr_rr ic
    by_cases z : wk i = 0
    · unfold wpX_frameAge
      refine sr_xnf2 hi hC z ?_
      refine br_f (by decide) ?_
      unfold wpY_frameAge
      refine sr_ysl0 hi hC ?_
      refine br_t rfl (And.intro i24 ?_)
      exact br_t (er.trans z) ⟨rfl, R⟩
    · unfold wpX_frameAge
      refine sr_xnf0 hi hC z ?_
      refine br_t rfl (And.intro i24 ?_)
      unfold wpY_frameAge
      refine sr_ysl0 hi hC ?_
      refine br_t rfl (And.intro i24 ?_)
      exact br_f (fun y => z (er.symm.trans y)) (And.intro i24 ⟨rfl, R⟩)
  · unfold wpX_frameAge
    refine sr_xnf1 hb ?_
    refine br_f (by decide) ?_
    unfold wpY_frameAge
    refine sr_ysl1 hb ?_
    exact br_f (by decide) ⟨rfl, R⟩
end
