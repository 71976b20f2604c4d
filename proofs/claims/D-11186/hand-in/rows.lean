section
section
/-- atom i of the law's question has variable v -/
def tj_has (i v : Nat) : Bool := decide (i ≤ v ∧ v ≤ i + 1)
/-- what atom i's row (p or q) has for variable v -/
def tj_val (p q i v : Nat) : Nat := if i = 0 then (if v = 0 then p / 5 else p % 5) else (if v = 1 then q / 5 else q % 5)
/-- the value of variable v where the two rows join -/
def tj_vv (p q v : Nat) : Nat := if v = 0 then p / 5 else (if v = 1 then p % 5 else q % 5)
/-- the order of the variables, by the asked set -/
def tj_ord (s k : Nat) : Nat := (([[0, 1, 2], [0, 1, 2], [1, 0, 2], [0, 1, 2], [2, 0, 1], [0, 2, 1], [1, 2, 0], [0, 1, 2]] : List (List Nat)).getD s []).getD k 0
/-- how many variables are asked -/
def tj_ac (s : Nat) : Nat := ([0, 1, 1, 2, 1, 2, 2, 3] : List Nat).getD s 0
/-- the variable at depth j of atom i's trie -/
def tj_tv (s i j : Nat) : Nat := if i = 0 then (if s = 2 ∨ s = 6 then 1 - j else j) else (if s = 4 ∨ s = 5 then 2 - j else 1 + j)
/-- how many of the first d variables atom i has -/
def tj_ct (s i : Nat) : Nat → Nat
  | 0 => 0
  | d + 1 => tj_ct s i d + (if tj_has i (tj_ord s d) = true then 1 else 0)
def tj_nn (n0 n1 i : Nat) : Nat := if i = 0 then n0 else n1
/-- the answer's number -/
def tj_r0 (p s : Nat) : Nat := if s % 2 = 1 then p / 5 else 0
def tj_r1 (p s : Nat) : Nat := if s / 2 % 2 = 1 then 5 * tj_r0 p s + p % 5 else tj_r0 p s
def tj_ans (p q s : Nat) : Nat := if s / 4 % 2 = 1 then 5 * tj_r1 p s + q % 5 else tj_r1 p s
theorem tj_f1 : ∀ s, s < 8 → ∀ i, i < 2 → ∀ d, d < 3 → tj_has i (tj_ord s d) = true → tj_ct s i d < 2 ∧ tj_tv s i (tj_ct s i d) = tj_ord s d ∧ tj_ct s i (d + 1) = tj_ct s i d + 1 := by decide +kernel
theorem tj_f2a : ∀ s, s < 8 → ∀ i, i < 2 → ∀ d, d < 3 → tj_has i (tj_ord s d) = false → tj_ct s i d < 2 → ¬ tj_tv s i (tj_ct s i d) = tj_ord s d := by decide +kernel
theorem tj_f2b : ∀ s, s < 8 → ∀ i, i < 2 → ∀ d, d < 3 → tj_has i (tj_ord s d) = false → tj_ct s i (d + 1) = tj_ct s i d := by decide +kernel
theorem tj_f2c : ∀ s, s < 8 → ∀ i, i < 2 → ∀ d, d < 3 → tj_has i (tj_ord s d) = false → 0 < tj_ct s i d → ¬ tj_tv s i (tj_ct s i d - 1) = tj_ord s d := by decide +kernel
theorem tj_f2 (s : Nat) (hs : s < 8) (i : Nat) (hi : i < 2) (d : Nat) (hd : d < 3) (h : tj_has i (tj_ord s d) = false) : (tj_ct s i d < 2 → tj_tv s i (tj_ct s i d) ≠ tj_ord s d) ∧ tj_ct s i (d + 1) = tj_ct s i d ∧ (tj_ct s i d ≠ 0 → tj_tv s i (tj_ct s i d - 1) ≠ tj_ord s d) :=
  ⟨tj_f2a s hs i hi d hd h, tj_f2b s hs i hi d hd h, fun z => tj_f2c s hs i hi d hd h (Nat.pos_of_ne_zero z)⟩
theorem tj_f3 : ∀ s, s < 8 → ∀ i, i < 2 → ∀ d, d < 4 → tj_ct s i d ≤ 2 := by decide +kernel
theorem tj_f4 : ∀ s, s < 8 → ∀ i, i < 2 → tj_ct s i 3 = 2 := by decide +kernel
theorem tj_f5 : ∀ s, s < 8 → ∀ d, d < 3 → tj_ord s d < 3 := by decide +kernel
theorem tj_f6 : ∀ s, s < 8 → ∀ v, v < 3 → ∃ d, d < 3 ∧ tj_ord s d = v := by
  intro s hs v hv
  have h : tj_ord s 0 = v ∨ tj_ord s 1 = v ∨ tj_ord s 2 = v := by
    revert v
    revert s
    decide +kernel
  rcases h with h | h | h
  · exact ⟨0, by omega, h⟩
  · exact ⟨1, by omega, h⟩
  · exact ⟨2, by omega, h⟩
theorem tj_f7 : ∀ s, s < 8 → ∀ i, i < 2 → ∀ j, j < 2 → tj_has i (tj_tv s i j) = true := by decide +kernel
theorem tj_f8 : ∀ s, s < 8 → tj_ac s ≤ 3 ∧ (tj_ac s = 0 ↔ s = 0) := by decide +kernel
theorem tj_has3 : ∀ v, v < 3 → (v = 0 ∧ tj_has 0 v = true ∧ tj_has 1 v = false) ∨ (v = 1 ∧ tj_has 0 v = true ∧ tj_has 1 v = true) ∨ (v = 2 ∧ tj_has 0 v = false ∧ tj_has 1 v = true) := by decide +kernel
theorem tj_vv5 {p q v : Nat} (hp : p < 25) (hq : q < 25) : tj_vv p q v < 5 := by
  unfold tj_vv
  split
  · omega
  · split <;> omega
theorem tj_val5 {p q i v : Nat} (hp : p < 25) (hq : q < 25) : tj_val p q i v < 5 := by
  unfold tj_val
  split <;> split <;> omega
theorem tj_ans125 {p q s : Nat} (hp : p < 25) (hq : q < 25) : tj_ans p q s < 125 := by
  have h0 : tj_r0 p s < 5 := by
    unfold tj_r0
    split <;> omega
  have h1 : tj_r1 p s < 25 := by
    unfold tj_r1
    split <;> omega
  unfold tj_ans
  split <;> omega
theorem tj_byte : ∀ t, t < 128 → (nI t).toInt8.toInt32 = nI t := by decide +kernel
theorem tj_nar {x : Int32} {t : Nat} (h : x = nI t) (ht : t < 128) : vp_nar .byte x = nI t := by
  rw [vp_nar_byte, h]
  exact tj_byte t ht
theorem tj_bit : ∀ s, s < 8 → ∀ v, v < 5 → (((nI s >>> (nI v &&& 31)) &&& 1) = 0 ↔ s / 2 ^ v % 2 = 0) := by decide +kernel
/-! words with one bit -/
def tj_tst (x : Int64) (j : Nat) : Prop := ((x.toUInt64 >>> ((nI j).toInt64.toUInt64 &&& Int64.toUInt64 63)).toInt64 &&& 1) = 0
def tj_wd (n p : Nat) : Int64 := if n = 1 then lN (2 ^ p) else 0
theorem tj_wb : ∀ p, p < 64 → ∀ w, w < 64 → ((((lN (2 ^ p)).toUInt64 >>> ((nI w).toInt64.toUInt64 &&& Int64.toUInt64 63)).toInt64 &&& 1) = 0 ↔ w ≠ p) := by decide +kernel
theorem tj_w0 : ∀ w, w < 64 → (((0 : Int64).toUInt64 >>> ((nI w).toInt64.toUInt64 &&& Int64.toUInt64 63)).toInt64 &&& 1) = 0 := by decide +kernel
theorem tj_w1 : ∀ p, p < 64 → ((0 : Int64) ||| ((1 : Int64) <<< ((nI p).toInt64 &&& 63))) = lN (2 ^ p) := by decide +kernel
theorem tj_w2 : ∀ p, p < 64 → ¬ lN (2 ^ p) = 0 ∧ (lN (2 ^ p) &&& (lN (2 ^ p) - 1)) = 0 := by decide +kernel
theorem tj_wdt {n p w : Nat} (hp : p < 64) (hw : w < 64) : tj_tst (tj_wd n p) w ↔ ¬ (n = 1 ∧ w = p) := by
  unfold tj_tst tj_wd
  by_cases hn : n = 1
  · rw [if_pos hn, tj_wb p hp w hw]
    exact ⟨fun h g => h g.2, fun h g => h ⟨hn, g⟩⟩
  · rw [if_neg hn]
    exact ⟨fun _ g => hn g.1, fun _ => tj_w0 w hw⟩
theorem tj_m63 {w : Nat} (hw : w < 4096) : nI w &&& 63 = nI (w % 64) := pk_andN (by omega) 6 (by decide)
theorem tj_s6 {w : Nat} (hw : w < 4096) : nI w >>> ((6 : Int32) &&& 31) = nI (w / 64) := pk_shrN (by omega) ((6 : Int32) &&& 31) 6 (by decide)
/-- the set of answers: one bit, or none -/
def tj_A (fd ans : Nat) (a : Nat → Int64) : Prop := ∀ j, j < 49 → a j = tj_wd (if fd = 1 ∧ j = ans / 64 then 1 else 0) (ans % 64)
theorem tj_A0 {ans : Nat} {a : Nat → Int64} (h : ∀ j, j < 49 → a j = 0) : tj_A 0 ans a := by
  intro j hj
  rw [h j hj, if_neg (by omega)]
  rfl
theorem tj_A1 {ans : Nat} {a : Nat → Int64} (h : ∀ j, j < 49 → a j = 0) (x : Int64) (hx : x = lN (2 ^ (ans % 64))) : tj_A 1 ans (vp_updL a (ans / 64) x) := by
  intro j hj
  by_cases e : j = ans / 64
  · rw [if_pos ⟨rfl, e⟩, e, pk_uLs, hx]
    rfl
  · rw [if_neg (fun g => e g.2), pk_uLn e, h j hj]
    rfl
theorem tj_At {fd ans w : Nat} {a : Nat → Int64} (h : tj_A fd ans a) (hw : w < 3136) : tj_tst (a (w / 64)) (w % 64) ↔ ¬ (fd = 1 ∧ w = ans) := by
  rw [h (w / 64) (by omega), tj_wdt (by omega) (by omega)]
  by_cases hf : fd = 1
  · by_cases e : w / 64 = ans / 64
    · rw [if_pos ⟨hf, e⟩]
      omega
    · rw [if_neg (fun g => e g.2)]
      omega
  · rw [if_neg (fun g => hf g.1)]
    omega
end
end
section
section
variable {fl fq fi fs fo fa fb ft fn fk : Int32} {a1 a10 a11 a12 : Nat → Int64} {a2 a3 a4 a5 a6 a7 a8 a9 a13 a14 a15 a16 a17 a18 a19 a20 a21 a22 a23 a24 a25 : Nat → Int32}
theorem tj_k : ∀ r, r < 3 → (0 : Int32) + 2 * nI r = nI (2 * r) ∧ (6 : Int32) + 2 * nI r = nI (6 + 2 * r) := by decide +kernel
theorem tj_ix : ∀ r, r < 2 → ∀ c, c < 3 → (3 : Int32) * nI (4 + r) + nI c = nI (3 * (4 + r) + c) := by decide +kernel
theorem tj_ne2 {r : Nat} (hr : r < 2) : ¬ nI r = 2 := fun z => absurd ((nI_eq (b := 2) (by omega) (by decide)).mp z) (by omega)
theorem tj_nb1 : narrow .boolean (.int 1) = .int 1 := congrArg Value.int (show (1 : Int32) &&& 1 = 1 by decide)
theorem tj_nb0 : narrow .boolean (.int 0) = .int 0 := congrArg Value.int (show (0 : Int32) &&& 1 = 0 by decide)
theorem tj_col0 {post : Int32 → Prop} {r : Int32} {w : Nat} (hr : ¬ r = 2) (hw : w < 25) (H : post (nI (w / 5))) : wpX_columnOf post (fl, fq, fi, fs, fo, fa, fb, ft, fn, fk, a1, a2, a3, a4, a5, a6, a7, a8, a9, a10, a11, a12, a13, a14, a15, a16, a17, a18, a19, a20, a21, a22, a23, a24, a25) r (nI w) 0 := by
  have e1 : nI w / 5 = nI (w / 5) := pk_div (d := 5) (by omega) (by decide) (by decide)
  have e2 : nI (w / 5) - nI (w / 5) / 5 * 5 = nI (w / 5 % 5) := pk_rem (d := 5) (by omega) (by decide) (by decide)
  rw [Nat.mod_eq_of_lt (show w / 5 < 5 by omega)] at e2
  refine br_f hr (nm_r (e' := 1) (by decide) (Exists.intro 2 (br_f (by decide) ⟨by decide, nm_r e1 (nm_r (e' := 1) (by decide) (br_t (by decide) ⟨by decide, ?_⟩))⟩)))
  rw [e2]
  exact H
theorem tj_col1 {post : Int32 → Prop} {r : Int32} {w : Nat} (hr : ¬ r = 2) (hw : w < 25) (H : post (nI (w % 5))) : wpX_columnOf post (fl, fq, fi, fs, fo, fa, fb, ft, fn, fk, a1, a2, a3, a4, a5, a6, a7, a8, a9, a10, a11, a12, a13, a14, a15, a16, a17, a18, a19, a20, a21, a22, a23, a24, a25) r (nI w) 1 := by
  have e2 : nI w - nI w / 5 * 5 = nI (w % 5) := pk_rem (d := 5) (by omega) (by decide) (by decide)
  refine br_f hr (nm_r (e' := 0) (by decide) (Exists.intro 1 (br_t (by decide) ⟨by decide, ?_⟩)))
  rw [e2]
  exact H
theorem tj_hasRow {post : Int32 → Prop} {p0 p1 : Int32} {k w : Nat} (hk : p0 + 2 * p1 = nI k) (hw : w < 128) (hk2 : k + w / 64 < 12) (H1 : ¬ tj_tst (a1 (k + w / 64)) (w % 64) → post 1) (H0 : tj_tst (a1 (k + w / 64)) (w % 64) → post 0) : wpX_hasRow post (fl, fq, fi, fs, fo, fa, fb, ft, fn, fk, a1, a2, a3, a4, a5, a6, a7, a8, a9, a10, a11, a12, a13, a14, a15, a16, a17, a18, a19, a20, a21, a22, a23, a24, a25) p0 p1 (nI w) := by
  have e : (p0 + (2 * p1)) + (nI w >>> ((6 : Int32) &&& 31)) = nI (k + w / 64) := by
    rw [hk, tj_s6 (by omega), nI_add]
  refine And.intro (by rw [e]; exact pk_in _ 12 hk2) ?_
  rw [e, nI_clamp (by omega), tj_m63 (by omega)]
  exact br_c H0 H1
theorem tj_hasRowW {post : Int32 → Prop} {p0 p1 : Int32} {k w n p : Nat} (hk : p0 + 2 * p1 = nI k) (hw : w < 64) (hp : p < 64) (hk2 : k < 12) (hb : a1 k = tj_wd n p) (H1 : n = 1 ∧ w = p → post 1) (H0 : ¬ (n = 1 ∧ w = p) → post 0) : wpX_hasRow post (fl, fq, fi, fs, fo, fa, fb, ft, fn, fk, a1, a2, a3, a4, a5, a6, a7, a8, a9, a10, a11, a12, a13, a14, a15, a16, a17, a18, a19, a20, a21, a22, a23, a24, a25) p0 p1 (nI w) := by
  have hz : k + w / 64 = k := by omega
  have hm : w % 64 = w := by omega
  refine tj_hasRow hk (by omega) (by omega) (fun h => H1 ?_) (fun h => H0 ?_)
  · rw [hz, hm, hb, tj_wdt hp hw] at h
    exact Classical.not_not.mp h
  · rw [hz, hm, hb, tj_wdt hp hw] at h
    exact h
theorem tj_hasRow0 {post : Int32 → Prop} {p0 p1 : Int32} {k w : Nat} (hk : p0 + 2 * p1 = nI k) (hw : w < 128) (hk2 : k + w / 64 < 12) (hb : a1 (k + w / 64) = 0) (H0 : post 0) : wpX_hasRow post (fl, fq, fi, fs, fo, fa, fb, ft, fn, fk, a1, a2, a3, a4, a5, a6, a7, a8, a9, a10, a11, a12, a13, a14, a15, a16, a17, a18, a19, a20, a21, a22, a23, a24, a25) p0 p1 (nI w) := by
  refine tj_hasRow hk hw hk2 (fun h => absurd ?_ h) (fun h => H0)
  rw [hb]
  exact tj_w0 _ (by omega)
theorem tj_setRow {post : St2 → Prop} {p0 p1 : Int32} {k w : Nat} (hk : p0 + 2 * p1 = nI k) (hw : w < 64) (hk2 : k < 12) (hz : a1 k = 0) (H : post (fl, fq, fi, fs, fo, fa, fb, ft, fn, fk, (vp_updL a1 k (lN (2 ^ w))), a2, a3, a4, a5, a6, a7, a8, a9, a10, a11, a12, a13, a14, a15, a16, a17, a18, a19, a20, a21, a22, a23, a24, a25)) : wpX_setRow post (fl, fq, fi, fs, fo, fa, fb, ft, fn, fk, a1, a2, a3, a4, a5, a6, a7, a8, a9, a10, a11, a12, a13, a14, a15, a16, a17, a18, a19, a20, a21, a22, a23, a24, a25) p0 p1 (nI w) := by
  have e : (p0 + (2 * p1)) + (nI w >>> ((6 : Int32) &&& 31)) = nI k := by
    rw [hk, tj_s6 (by omega), nI_add, show k + w / 64 = k by omega]
  have e2 : nI w &&& 63 = nI w := by
    rw [tj_m63 (by omega), show w % 64 = w by omega]
  refine And.intro (by rw [e]; exact pk_in _ 12 hk2) (And.intro (by rw [e]; exact pk_in _ 12 hk2) ?_)
  rw [e, nI_clamp (by omega), e2, hz, tj_w1 w hw]
  exact nm_e H
theorem tj_isIn {post : Int32 → Prop} {fd ans w : Nat} (h : tj_A fd ans a10) (hw : w < 3136) (H1 : fd = 1 ∧ w = ans → post 1) (H0 : ¬ (fd = 1 ∧ w = ans) → post 0) : wpX_isIn_2 post (fl, fq, fi, fs, fo, fa, fb, ft, fn, fk, a1, a2, a3, a4, a5, a6, a7, a8, a9, a10, a11, a12, a13, a14, a15, a16, a17, a18, a19, a20, a21, a22, a23, a24, a25) (nI w) := by
  have e : nI w >>> ((6 : Int32) &&& 31) = nI (w / 64) := tj_s6 (by omega)
  refine And.intro (by rw [e]; exact pk_in (w / 64) 49 (by omega)) ?_
  rw [e, nI_clamp (by omega), tj_m63 (by omega)]
  exact br_c (fun g => H0 ((tj_At h hw).mp g)) (fun g => H1 (Classical.not_not.mp (fun z => g ((tj_At h hw).mpr z))))
theorem tj_putIn {post : St2 → Prop} {w : Nat} (hw : w < 3136) (hz : ∀ j, j < 49 → a10 j = 0) (H : ∀ b10, tj_A 1 w b10 → post (fl, fq, fi, fs, fo, fa, fb, ft, fn, fk, a1, a2, a3, a4, a5, a6, a7, a8, a9, b10, a11, a12, a13, a14, a15, a16, a17, a18, a19, a20, a21, a22, a23, a24, a25)) : wpX_putIn_2 post (fl, fq, fi, fs, fo, fa, fb, ft, fn, fk, a1, a2, a3, a4, a5, a6, a7, a8, a9, a10, a11, a12, a13, a14, a15, a16, a17, a18, a19, a20, a21, a22, a23, a24, a25) (nI w) := by
  have e : nI w >>> ((6 : Int32) &&& 31) = nI (w / 64) := tj_s6 (by omega)
  refine And.intro (by rw [e]; exact pk_in (w / 64) 49 (by omega)) (And.intro (by rw [e]; exact pk_in (w / 64) 49 (by omega)) ?_)
  rw [e, nI_clamp (by omega), tj_m63 (by omega), hz (w / 64) (by omega), tj_w1 _ (by omega)]
  exact nm_e (H _ (tj_A1 hz _ rfl))
theorem tj_isQ {post : Int32 → Prop} (H : post 1) : wpX_isQuestion post (fl, fq, fi, fs, fo, fa, fb, ft, fn, fk, a1, a2, a3, a4, a5, a6, a7, a8, a9, a10, a11, a12, a13, a14, a15, a16, a17, a18, a19, a20, a21, a22, a23, a24, a25) 1 := br_f (by decide) (br_t rfl H)
theorem tj_isRow {post : Int32 → Prop} {r w : Nat} (hr : r < 2) (hw : w < 25) (H : post 1) : wpX_isRow post (fl, fq, fi, fs, fo, fa, fb, ft, fn, fk, a1, a2, a3, a4, a5, a6, a7, a8, a9, a10, a11, a12, a13, a14, a15, a16, a17, a18, a19, a20, a21, a22, a23, a24, a25) (nI r) (nI w) :=
  br_f (nI_pos (by omega)) (pk_lt 2 r (fun z => absurd z (by omega)) (fun _ => br_f (nI_pos (by omega)) (pk_eq r 2 (fun z => absurd z (by omega)) (fun _ => pk_le 25 w (fun z => absurd z (by omega)) (fun _ => H)))))
theorem tj_isRowG {post : Int32 → Prop} {r w : Nat} (hr : r < 3) (hw : w < 125) (H1 : r = 2 ∨ w < 25 → post 1) (H0 : ¬ (r = 2 ∨ w < 25) → post 0) : wpX_isRow post (fl, fq, fi, fs, fo, fa, fb, ft, fn, fk, a1, a2, a3, a4, a5, a6, a7, a8, a9, a10, a11, a12, a13, a14, a15, a16, a17, a18, a19, a20, a21, a22, a23, a24, a25) (nI r) (nI w) :=
  br_f (nI_pos (by omega)) (pk_lt 2 r (fun z => absurd z (by omega)) (fun _ => br_f (nI_pos (by omega)) (pk_eq r 2 (fun z => pk_le 125 w (fun z => absurd z (by omega)) (fun _ => H1 (by omega))) (fun z => pk_le 25 w (fun z => H0 (by omega)) (fun _ => H1 (by omega))))))
theorem tj_add {post : Int32 → St2 → Prop} {r w : Nat} (hr : r < 2) (hw : w < 25) (hz : a1 (2 * r) = 0) (hc : a2 r = 0) (H : ∀ b2 : Nat → Int32, (∀ j, j ≠ r → b2 j = a2 j) → post 1 (fl, fq, fi, fs, fo, fa, fb, ft, fn, fk, (vp_updL a1 (2 * r) (lN (2 ^ w))), b2, a3, a4, a5, a6, a7, a8, a9, a10, a11, a12, a13, a14, a15, a16, a17, a18, a19, a20, a21, a22, a23, a24, a25)) : wpX_add post (fl, fq, fi, fs, fo, fa, fb, ft, fn, fk, a1, a2, a3, a4, a5, a6, a7, a8, a9, a10, a11, a12, a13, a14, a15, a16, a17, a18, a19, a20, a21, a22, a23, a24, a25) (nI r) (nI w) := by
  unfold wpX_add
  refine tj_isRow hr hw (br_f (by decide) (tj_hasRow0 (k := 2 * r) (tj_k r (by omega)).1 (by omega) (by omega) (by rw [show 2 * r + w / 64 = 2 * r by omega]; exact hz) ?_))
  refine br_t rfl ⟨pk_in r 3 (by omega), br_t (by rw [nI_clamp (by omega), hc]; decide) (tj_setRow (k := 2 * r) (tj_k r (by omega)).1 (by omega) (by omega) hz ?_)⟩
  refine And.intro (pk_in r 3 (by omega)) (And.intro (pk_in r 3 (by omega)) (nm_e (H _ ?_)))
  intro j hj
  rw [nI_clamp (by omega)]
  exact pk_un hj
theorem tj_atom {post : Int32 → St2 → Prop} {r w : Nat} (hr : r < 2) (hw : w < 25) (h : a3 1 = nI r) (H : ∀ (x : Int32) (b3 b4 b5 : Nat → Int32), x = nI (r + 1) → b3 1 = nI (r + 1) → b4 (4 + r) = nI r → (∀ j, j ≠ 4 + r → b4 j = a4 j) → b5 (3 * (4 + r)) = nI (w / 5) → b5 (3 * (4 + r) + 1) = nI (w % 5) → b5 (3 * (4 + r) + 2) = -1 → (∀ j, j < 3 * (4 + r) → b5 j = a5 j) → post x (fl, fq, fi, fs, fo, fa, fb, ft, fn, fk, a1, a2, b3, b4, b5, a6, a7, a8, a9, a10, a11, a12, a13, a14, a15, a16, a17, a18, a19, a20, a21, a22, a23, a24, a25)) : wpX_atom post (fl, fq, fi, fs, fo, fa, fb, ft, fn, fk, a1, a2, a3, a4, a5, a6, a7, a8, a9, a10, a11, a12, a13, a14, a15, a16, a17, a18, a19, a20, a21, a22, a23, a24, a25) 1 (nI r) (nI w) := by
  have hr2 := tj_ne2 hr
  have i0 : (3 : Int32) * nI (4 + r) + 0 = nI (3 * (4 + r)) := tj_ix r hr 0 (by decide)
  have i1 : (3 : Int32) * nI (4 + r) + 1 = nI (3 * (4 + r) + 1) := tj_ix r hr 1 (by decide)
  have i2 : (3 : Int32) * nI (4 + r) + 2 = nI (3 * (4 + r) + 2) := tj_ix r hr 2 (by decide)
  have e1 : (4 * 1 : Int32) + a3 1 = nI (4 + r) := by
    rw [h]
    revert r
    intro r hr
    intros
    exact (show ∀ r, r < 2 → (4 * 1 : Int32) + nI r = nI (4 + r) by decide +kernel) r hr
  have c1 : a3 1 < 4 := by
    rw [h]
    exact nI_lt (b := 4) (by omega) (by decide)
  have e3 : (a3 1 + 1).toInt8.toInt32 = nI (r + 1) := by
    rw [h, nI_1]
    exact tj_byte _ (by omega)
  unfold wpX_atom
  refine tj_isQ (br_f (by decide) (tj_isRow hr hw (br_f (by decide) ⟨pk_in 1 2 (by omega), br_t c1 ⟨pk_in 1 2 (by omega), nm_r e1 ⟨pk_in (4 + r) 8 (by omega), nm_e (Exists.intro 4 ?_)⟩⟩⟩)))
  refine br_f (by decide) (br_f hr2 (br_f (by decide) (tj_col0 hr2 hw ⟨pk_in _ 24 (by omega) i0, nm_e (nm_r (e' := 1) (by decide) ?_)⟩)))
  refine br_f (by decide) (br_f hr2 (br_f (by decide) (tj_col1 hr2 hw ⟨pk_in _ 24 (by omega) i1, nm_e (nm_r (e' := 2) (by decide) ?_)⟩)))
  refine br_f (by decide) (br_f hr2 (br_t (by decide) ⟨pk_in _ 24 (by omega) i2, nm_e (nm_r (e' := 3) (by decide) ?_)⟩))
  refine br_t (by decide) ⟨pk_in 1 2 (by omega), pk_in 1 2 (by omega), nm_e ⟨pk_in 1 2 (by omega), ?_⟩⟩
  rw [i0, i1, i2, nI_clamp (show 3 * (4 + r) < 2 ^ 31 by omega), nI_clamp (show 3 * (4 + r) + 1 < 2 ^ 31 by omega), nI_clamp (show 3 * (4 + r) + 2 < 2 ^ 31 by omega), nI_clamp (show 4 + r < 2 ^ 31 by omega), tj_byte r (by omega), tj_byte (w / 5) (by omega), tj_byte (w % 5) (by omega)]
  refine H _ _ _ _ ?_ ?_ pk_us (fun j hj => pk_un hj) ?_ ?_ ?_ ?_
  · exact pk_us.trans e3
  · exact pk_us.trans e3
  · rw [pk_un (by omega), pk_un (by omega), pk_us]
  · rw [pk_un (by omega), pk_us]
  · rw [pk_us]
    decide
  · intro j hj
    rw [pk_un (by omega), pk_un (by omega), pk_un (by omega)]
theorem tj_ask {post : Int32 → St2 → Prop} {s : Nat} (hs : s < 8) (H : ∀ b6 : Nat → Int32, b6 1 = nI s → post 1 (fl, fq, fi, fs, fo, fa, fb, ft, fn, fk, a1, a2, a3, a4, a5, b6, a7, a8, a9, a10, a11, a12, a13, a14, a15, a16, a17, a18, a19, a20, a21, a22, a23, a24, a25)) : wpX_ask post (fl, fq, fi, fs, fo, fa, fb, ft, fn, fk, a1, a2, a3, a4, a5, a6, a7, a8, a9, a10, a11, a12, a13, a14, a15, a16, a17, a18, a19, a20, a21, a22, a23, a24, a25) 1 (nI s) := by
  unfold wpX_ask
  refine tj_isQ (br_f (by decide) (br_f (nI_pos (by omega)) (pk_le s 31 (fun _ => ⟨pk_in 1 2 (by omega), nm_e (H _ ?_)⟩) (fun z => absurd z (by omega)))))
  rw [tj_byte s (by omega)]
  exact pk_us
/-- what the law's question looks like -/
def tj_K (s : Nat) (a3 a4 a5 a6 : Nat → Int32) : Prop := a3 1 = 2 ∧ a4 4 = 0 ∧ a4 5 = 1 ∧ a5 12 = 0 ∧ a5 13 = 1 ∧ a5 14 = -1 ∧ a5 15 = 1 ∧ a5 16 = 2 ∧ a5 17 = -1 ∧ a6 1 = nI s
theorem tj_all {post : Int32 → Prop} {s : Nat} (k : tj_K s a3 a4 a5 a6) (H : post 3) : wpX_allAtoms post (fl, fq, fi, fs, fo, fa, fb, ft, fn, fk, a1, a2, a3, a4, a5, a6, a7, a8, a9, a10, a11, a12, a13, a14, a15, a16, a17, a18, a19, a20, a21, a22, a23, a24, a25) 1 := by
  have e : ((1 : Int32) <<< (a3 1 &&& 31)) - 1 = 3 := by
    rw [k.1]
    decide
  refine And.intro (pk_in 1 2 (by omega)) ?_
  show post (((1 : Int32) <<< (a3 1 &&& 31)) - 1)
  rw [e]
  exact H
theorem tj_voa0 {post : Int32 → Prop} {s : Nat} {x : Int32} (k : tj_K s a3 a4 a5 a6) (hx : x = 4) (H : post 3) : wpX_variablesOfAtom post (fl, fq, fi, fs, fo, fa, fb, ft, fn, fk, a1, a2, a3, a4, a5, a6, a7, a8, a9, a10, a11, a12, a13, a14, a15, a16, a17, a18, a19, a20, a21, a22, a23, a24, a25) x := by
  obtain ⟨k1, k2, k3, h0, h1, h2, h3, h4, h5, k6⟩ := k
  subst hx
  refine Exists.intro 4 ?_
  refine br_f (by decide) ⟨pk_in 12 24 (by omega), br_f (show ¬ a5 12 < 0 by rw [h0]; decide) ⟨pk_in 12 24 (by omega), nm_r (e' := 1) (show (0 : Int32) ||| ((1 : Int32) <<< (a5 12 &&& 31)) = 1 by rw [h0]; decide) (nm_r (e' := 1) (by decide) ?_)⟩⟩
  refine br_f (by decide) ⟨pk_in 13 24 (by omega), br_f (show ¬ a5 13 < 0 by rw [h1]; decide) ⟨pk_in 13 24 (by omega), nm_r (e' := 3) (show (1 : Int32) ||| ((1 : Int32) <<< (a5 13 &&& 31)) = 3 by rw [h1]; decide) (nm_r (e' := 2) (by decide) ?_)⟩⟩
  refine br_f (by decide) ⟨pk_in 14 24 (by omega), br_t (show a5 14 < 0 by rw [h2]; decide) (nm_r (e' := 3) (by decide) ?_)⟩
  exact br_t (by decide) H
theorem tj_voa1 {post : Int32 → Prop} {s : Nat} {x : Int32} (k : tj_K s a3 a4 a5 a6) (hx : x = 5) (H : post 6) : wpX_variablesOfAtom post (fl, fq, fi, fs, fo, fa, fb, ft, fn, fk, a1, a2, a3, a4, a5, a6, a7, a8, a9, a10, a11, a12, a13, a14, a15, a16, a17, a18, a19, a20, a21, a22, a23, a24, a25) x := by
  obtain ⟨k1, k2, k3, h0, h1, h2, h3, h4, h5, k6⟩ := k
  subst hx
  refine Exists.intro 4 ?_
  refine br_f (by decide) ⟨pk_in 15 24 (by omega), br_f (show ¬ a5 15 < 0 by rw [h3]; decide) ⟨pk_in 15 24 (by omega), nm_r (e' := 2) (show (0 : Int32) ||| ((1 : Int32) <<< (a5 15 &&& 31)) = 2 by rw [h3]; decide) (nm_r (e' := 1) (by decide) ?_)⟩⟩
  refine br_f (by decide) ⟨pk_in 16 24 (by omega), br_f (show ¬ a5 16 < 0 by rw [h4]; decide) ⟨pk_in 16 24 (by omega), nm_r (e' := 6) (show (2 : Int32) ||| ((1 : Int32) <<< (a5 16 &&& 31)) = 6 by rw [h4]; decide) (nm_r (e' := 2) (by decide) ?_)⟩⟩
  refine br_f (by decide) ⟨pk_in 17 24 (by omega), br_t (show a5 17 < 0 by rw [h5]; decide) (nm_r (e' := 3) (by decide) ?_)⟩
  exact br_t (by decide) H
theorem tj_vof3 {post : Int32 → Prop} {s : Nat} (k : tj_K s a3 a4 a5 a6) (H : post 7) : wpX_variablesOf post (fl, fq, fi, fs, fo, fa, fb, ft, fn, fk, a1, a2, a3, a4, a5, a6, a7, a8, a9, a10, a11, a12, a13, a14, a15, a16, a17, a18, a19, a20, a21, a22, a23, a24, a25) 1 3 := by
  refine Exists.intro 5 ?_
  refine br_f (by decide) (br_f (by decide) (tj_voa0 k (by decide) (nm_r (e' := 3) (by decide) (nm_r (e' := 1) (by decide) ?_))))
  refine br_f (by decide) (br_f (by decide) (tj_voa1 k (by decide) (nm_r (e' := 7) (by decide) (nm_r (e' := 2) (by decide) ?_))))
  refine br_f (by decide) (br_t (by decide) (nm_r (e' := 3) (by decide) ?_))
  refine br_f (by decide) (br_t (by decide) (nm_r (e' := 4) (by decide) ?_))
  exact br_t (by decide) H
theorem tj_vof1 {post : Int32 → Prop} {s : Nat} (k : tj_K s a3 a4 a5 a6) (H : post 3) : wpX_variablesOf post (fl, fq, fi, fs, fo, fa, fb, ft, fn, fk, a1, a2, a3, a4, a5, a6, a7, a8, a9, a10, a11, a12, a13, a14, a15, a16, a17, a18, a19, a20, a21, a22, a23, a24, a25) 1 1 := by
  refine Exists.intro 5 ?_
  refine br_f (by decide) (br_f (by decide) (tj_voa0 k (by decide) (nm_r (e' := 3) (by decide) (nm_r (e' := 1) (by decide) ?_))))
  refine br_f (by decide) (br_t (by decide) (nm_r (e' := 2) (by decide) ?_))
  refine br_f (by decide) (br_t (by decide) (nm_r (e' := 3) (by decide) ?_))
  refine br_f (by decide) (br_t (by decide) (nm_r (e' := 4) (by decide) ?_))
  exact br_t (by decide) H
theorem tj_vof2 {post : Int32 → Prop} {s : Nat} (k : tj_K s a3 a4 a5 a6) (H : post 6) : wpX_variablesOf post (fl, fq, fi, fs, fo, fa, fb, ft, fn, fk, a1, a2, a3, a4, a5, a6, a7, a8, a9, a10, a11, a12, a13, a14, a15, a16, a17, a18, a19, a20, a21, a22, a23, a24, a25) 1 2 := by
  refine Exists.intro 5 ?_
  refine br_f (by decide) (br_t (by decide) (nm_r (e' := 1) (by decide) ?_))
  refine br_f (by decide) (br_f (by decide) (tj_voa1 k (by decide) (nm_r (e' := 6) (by decide) (nm_r (e' := 2) (by decide) ?_))))
  refine br_f (by decide) (br_t (by decide) (nm_r (e' := 3) (by decide) ?_))
  refine br_f (by decide) (br_t (by decide) (nm_r (e' := 4) (by decide) ?_))
  exact br_t (by decide) H
theorem tj_s7 : ∀ s, s < 8 → nI s &&& ((7 : Int32) ^^^ (-1)) = 0 := by decide +kernel
theorem tj_isWhole3 {post : Int32 → Prop} {s : Nat} (k : tj_K s a3 a4 a5 a6) (hs : s < 8) (H : post 1) : wpX_isWhole post (fl, fq, fi, fs, fo, fa, fb, ft, fn, fk, a1, a2, a3, a4, a5, a6, a7, a8, a9, a10, a11, a12, a13, a14, a15, a16, a17, a18, a19, a20, a21, a22, a23, a24, a25) 1 3 := by
  unfold wpX_isWhole
  refine tj_vof3 k (br_f (by decide) ⟨pk_in 1 2 (by omega), br_t ?_ H⟩)
  show a6 1 &&& ((7 : Int32) ^^^ (-1)) = 0
  rw [k.2.2.2.2.2.2.2.2.2]
  exact tj_s7 s hs
theorem tj_isWhole1 {post : Int32 → Prop} {s : Nat} (k : tj_K s a3 a4 a5 a6) (H1 : post 1) (H0 : post 0) : wpX_isWhole post (fl, fq, fi, fs, fo, fa, fb, ft, fn, fk, a1, a2, a3, a4, a5, a6, a7, a8, a9, a10, a11, a12, a13, a14, a15, a16, a17, a18, a19, a20, a21, a22, a23, a24, a25) 1 1 := by
  unfold wpX_isWhole
  exact tj_vof1 k (br_f (by decide) ⟨pk_in 1 2 (by omega), br_c (fun _ => H1) (fun _ => H0)⟩)
theorem tj_isWhole2 {post : Int32 → Prop} {s : Nat} (k : tj_K s a3 a4 a5 a6) (H1 : post 1) (H0 : post 0) : wpX_isWhole post (fl, fq, fi, fs, fo, fa, fb, ft, fn, fk, a1, a2, a3, a4, a5, a6, a7, a8, a9, a10, a11, a12, a13, a14, a15, a16, a17, a18, a19, a20, a21, a22, a23, a24, a25) 1 2 := by
  unfold wpX_isWhole
  exact tj_vof2 k (br_f (by decide) ⟨pk_in 1 2 (by omega), br_c (fun _ => H1) (fun _ => H0)⟩)
theorem tj_whole {post : Int32 → Prop} {s : Nat} (k : tj_K s a3 a4 a5 a6) (hs : s < 8) (H : post 1) : wpX_whole post (fl, fq, fi, fs, fo, fa, fb, ft, fn, fk, a1, a2, a3, a4, a5, a6, a7, a8, a9, a10, a11, a12, a13, a14, a15, a16, a17, a18, a19, a20, a21, a22, a23, a24, a25) 1 := by
  unfold wpX_whole
  exact tj_isQ (br_f (by decide) (tj_all k (tj_isWhole3 k hs ⟨tj_nb1, H⟩)))
theorem tj_fits0 {post : Int32 → Prop} {s : Nat} {x r y : Int32} (k : tj_K s a3 a4 a5 a6) (hx : x = 4) (hr : r = 0) (H : post 1) : wpX_fitsAtom post (fl, fq, fi, fs, fo, fa, fb, ft, fn, fk, a1, a2, a3, a4, a5, a6, a7, a8, a9, a10, a11, a12, a13, a14, a15, a16, a17, a18, a19, a20, a21, a22, a23, a24, a25) x r y := by
  obtain ⟨k1, k2, k3, h0, h1, h2, h3, h4, h5, k6⟩ := k
  subst hx hr
  refine Exists.intro 2 (br_f (by decide) (br_f (by decide) (Exists.intro 2 ?_)))
  refine br_f (by decide) ⟨pk_in 13 24 (by omega), pk_in 12 24 (by omega), br_f (show ¬ a5 13 = a5 12 by rw [h0, h1]; decide) (nm_r (e' := 1) (by decide) ?_)⟩
  refine br_t (by decide) (nm_r (e' := 2) (by decide) ?_)
  exact br_f (by decide) (br_t (by decide) H)
theorem tj_fits1 {post : Int32 → Prop} {s : Nat} {x r y : Int32} (k : tj_K s a3 a4 a5 a6) (hx : x = 5) (hr : r = 1) (H : post 1) : wpX_fitsAtom post (fl, fq, fi, fs, fo, fa, fb, ft, fn, fk, a1, a2, a3, a4, a5, a6, a7, a8, a9, a10, a11, a12, a13, a14, a15, a16, a17, a18, a19, a20, a21, a22, a23, a24, a25) x r y := by
  obtain ⟨k1, k2, k3, h0, h1, h2, h3, h4, h5, k6⟩ := k
  subst hx hr
  refine Exists.intro 2 (br_f (by decide) (br_f (by decide) (Exists.intro 2 ?_)))
  refine br_f (by decide) ⟨pk_in 16 24 (by omega), pk_in 15 24 (by omega), br_f (show ¬ a5 16 = a5 15 by rw [h3, h4]; decide) (nm_r (e' := 1) (by decide) ?_)⟩
  refine br_t (by decide) (nm_r (e' := 2) (by decide) ?_)
  exact br_f (by decide) (br_t (by decide) H)
end
end
section
section
variable {fl fq fi fs fo fa fb ft fn fk : Int32} {a1 a10 a11 a12 : Nat → Int64} {a2 a3 a4 a5 a6 a7 a8 a9 a13 a14 a15 a16 a17 a18 a19 a20 a21 a22 a23 a24 a25 : Nat → Int32}
theorem tj_key00 {post : Int32 → Prop} {s w : Nat} {x z : Int32} (k : tj_K s a3 a4 a5 a6) (hw : w < 25) (hx : x = 4) (hz : z = 1) (H : post (nI (w / 5))) : wpX_keyOfRow post (fl, fq, fi, fs, fo, fa, fb, ft, fn, fk, a1, a2, a3, a4, a5, a6, a7, a8, a9, a10, a11, a12, a13, a14, a15, a16, a17, a18, a19, a20, a21, a22, a23, a24, a25) x (nI w) z := by
  obtain ⟨k1, k2, k3, h0, h1, h2, h3, h4, h5, k6⟩ := k
  subst hx hz
  have e : (5 : Int32) * 0 + nI (w / 5) = nI (w / 5) := by rw [show (5 : Int32) * 0 = nI 0 by decide, nI_add, Nat.zero_add]
  have hr : ¬ a4 4 = 2 := by rw [k2]; decide
  refine Exists.intro 6 ?_
  refine br_f (by decide) (br_f (by decide) (Exists.intro 2 ?_))
  refine And.intro (pk_in 12 24 (by omega)) (br_t (show a5 12 = 0 by rw [h0]) ⟨pk_in 4 8 (by omega), tj_col0 hr hw (nm_r e (nm_r (e' := 1) (by decide) ?_))⟩)
  refine br_f (by decide) (br_t (by decide) (nm_r (e' := 2) (by decide) ?_))
  refine br_f (by decide) (br_t (by decide) (nm_r (e' := 3) (by decide) ?_))
  refine br_f (by decide) (br_t (by decide) (nm_r (e' := 4) (by decide) ?_))
  refine br_f (by decide) (br_t (by decide) (nm_r (e' := 5) (by decide) ?_))
  exact br_t (by decide) H
theorem tj_key01 {post : Int32 → Prop} {s w : Nat} {x z : Int32} (k : tj_K s a3 a4 a5 a6) (hw : w < 25) (hx : x = 4) (hz : z = 2) (H : post (nI (w % 5))) : wpX_keyOfRow post (fl, fq, fi, fs, fo, fa, fb, ft, fn, fk, a1, a2, a3, a4, a5, a6, a7, a8, a9, a10, a11, a12, a13, a14, a15, a16, a17, a18, a19, a20, a21, a22, a23, a24, a25) x (nI w) z := by
  obtain ⟨k1, k2, k3, h0, h1, h2, h3, h4, h5, k6⟩ := k
  subst hx hz
  have e : (5 : Int32) * 0 + nI (w % 5) = nI (w % 5) := by rw [show (5 : Int32) * 0 = nI 0 by decide, nI_add, Nat.zero_add]
  have hr : ¬ a4 4 = 2 := by rw [k2]; decide
  refine Exists.intro 6 ?_
  refine br_f (by decide) (br_t (by decide) (nm_r (e' := 1) (by decide) ?_))
  refine br_f (by decide) (br_f (by decide) (Exists.intro 2 ?_))
  refine And.intro (pk_in 12 24 (by omega)) (br_f (show ¬ a5 12 = 1 by rw [h0]; decide) (nm_r (e' := 1) (by decide) ?_))
  refine And.intro (pk_in 13 24 (by omega)) (br_t (show a5 13 = 1 by rw [h1]) ⟨pk_in 4 8 (by omega), tj_col1 hr hw (nm_r e (nm_r (e' := 2) (by decide) ?_))⟩)
  refine br_f (by decide) (br_t (by decide) (nm_r (e' := 3) (by decide) ?_))
  refine br_f (by decide) (br_t (by decide) (nm_r (e' := 4) (by decide) ?_))
  refine br_f (by decide) (br_t (by decide) (nm_r (e' := 5) (by decide) ?_))
  exact br_t (by decide) H
theorem tj_key11 {post : Int32 → Prop} {s w : Nat} {x z : Int32} (k : tj_K s a3 a4 a5 a6) (hw : w < 25) (hx : x = 5) (hz : z = 2) (H : post (nI (w / 5))) : wpX_keyOfRow post (fl, fq, fi, fs, fo, fa, fb, ft, fn, fk, a1, a2, a3, a4, a5, a6, a7, a8, a9, a10, a11, a12, a13, a14, a15, a16, a17, a18, a19, a20, a21, a22, a23, a24, a25) x (nI w) z := by
  obtain ⟨k1, k2, k3, h0, h1, h2, h3, h4, h5, k6⟩ := k
  subst hx hz
  have e : (5 : Int32) * 0 + nI (w / 5) = nI (w / 5) := by rw [show (5 : Int32) * 0 = nI 0 by decide, nI_add, Nat.zero_add]
  have hr : ¬ a4 5 = 2 := by rw [k3]; decide
  refine Exists.intro 6 ?_
  refine br_f (by decide) (br_t (by decide) (nm_r (e' := 1) (by decide) ?_))
  refine br_f (by decide) (br_f (by decide) (Exists.intro 2 ?_))
  refine And.intro (pk_in 15 24 (by omega)) (br_t (show a5 15 = 1 by rw [h3]) ⟨pk_in 5 8 (by omega), tj_col0 hr hw (nm_r e (nm_r (e' := 2) (by decide) ?_))⟩)
  refine br_f (by decide) (br_t (by decide) (nm_r (e' := 3) (by decide) ?_))
  refine br_f (by decide) (br_t (by decide) (nm_r (e' := 4) (by decide) ?_))
  refine br_f (by decide) (br_t (by decide) (nm_r (e' := 5) (by decide) ?_))
  exact br_t (by decide) H
theorem tj_key12 {post : Int32 → Prop} {s w : Nat} {x z : Int32} (k : tj_K s a3 a4 a5 a6) (hw : w < 25) (hx : x = 5) (hz : z = 4) (H : post (nI (w % 5))) : wpX_keyOfRow post (fl, fq, fi, fs, fo, fa, fb, ft, fn, fk, a1, a2, a3, a4, a5, a6, a7, a8, a9, a10, a11, a12, a13, a14, a15, a16, a17, a18, a19, a20, a21, a22, a23, a24, a25) x (nI w) z := by
  obtain ⟨k1, k2, k3, h0, h1, h2, h3, h4, h5, k6⟩ := k
  subst hx hz
  have e : (5 : Int32) * 0 + nI (w % 5) = nI (w % 5) := by rw [show (5 : Int32) * 0 = nI 0 by decide, nI_add, Nat.zero_add]
  have hr : ¬ a4 5 = 2 := by rw [k3]; decide
  refine Exists.intro 6 ?_
  refine br_f (by decide) (br_t (by decide) (nm_r (e' := 1) (by decide) ?_))
  refine br_f (by decide) (br_t (by decide) (nm_r (e' := 2) (by decide) ?_))
  refine br_f (by decide) (br_f (by decide) (Exists.intro 2 ?_))
  refine And.intro (pk_in 15 24 (by omega)) (br_f (show ¬ a5 15 = 2 by rw [h3]; decide) (nm_r (e' := 1) (by decide) ?_))
  refine And.intro (pk_in 16 24 (by omega)) (br_t (show a5 16 = 2 by rw [h4]) ⟨pk_in 5 8 (by omega), tj_col1 hr hw (nm_r e (nm_r (e' := 3) (by decide) ?_))⟩)
  refine br_f (by decide) (br_t (by decide) (nm_r (e' := 4) (by decide) ?_))
  refine br_f (by decide) (br_t (by decide) (nm_r (e' := 5) (by decide) ?_))
  exact br_t (by decide) H
def tj_row (p q i : Nat) : Nat := if i = 0 then p else q
theorem tj_sh : ∀ v, v < 3 → (1 : Int32) <<< (nI v &&& 31) = nI (2 ^ v) := by decide +kernel
theorem tj_key {post : Int32 → Prop} {s p q i v : Nat} {x y z : Int32} (k : tj_K s a3 a4 a5 a6) (hp : p < 25) (hq : q < 25) (hi : i < 2) (hv : tj_has i v = true) (hx : x = nI (4 + i)) (hy : y = nI (tj_row p q i)) (hz : z = (1 : Int32) <<< (nI v &&& 31)) (H : post (nI (tj_val p q i v))) : wpX_keyOfRow post (fl, fq, fi, fs, fo, fa, fb, ft, fn, fk, a1, a2, a3, a4, a5, a6, a7, a8, a9, a10, a11, a12, a13, a14, a15, a16, a17, a18, a19, a20, a21, a22, a23, a24, a25) x y z := by
  have hv' : i ≤ v ∧ v ≤ i + 1 := of_decide_eq_true hv
  have h : (i = 0 ∧ v = 0) ∨ (i = 0 ∧ v = 1) ∨ (i = 1 ∧ v = 1) ∨ (i = 1 ∧ v = 2) := by omega
  rcases h with ⟨rfl, rfl⟩ | ⟨rfl, rfl⟩ | ⟨rfl, rfl⟩ | ⟨rfl, rfl⟩
  · subst hy
    exact tj_key00 (w := p) k hp hx (hz.trans (by decide)) H
  · subst hy
    exact tj_key01 (w := p) k hp hx (hz.trans (by decide)) H
  · subst hy
    exact tj_key11 (w := q) k hq hx (hz.trans (by decide)) H
  · subst hy
    exact tj_key12 (w := q) k hq hx (hz.trans (by decide)) H
theorem tj_voa {post : Int32 → Prop} {s i : Nat} {x : Int32} (k : tj_K s a3 a4 a5 a6) (hi : i < 2) (hx : x = nI (4 + i)) (H : post (nI (3 * (i + 1)))) : wpX_variablesOfAtom post (fl, fq, fi, fs, fo, fa, fb, ft, fn, fk, a1, a2, a3, a4, a5, a6, a7, a8, a9, a10, a11, a12, a13, a14, a15, a16, a17, a18, a19, a20, a21, a22, a23, a24, a25) x := by
  have h : i = 0 ∨ i = 1 := by omega
  rcases h with rfl | rfl
  · exact tj_voa0 k hx H
  · exact tj_voa1 k hx H
theorem tj_fits {post : Int32 → Prop} {s i : Nat} {x r y : Int32} (k : tj_K s a3 a4 a5 a6) (hi : i < 2) (hx : x = nI (4 + i)) (hr : r = nI i) (H : post 1) : wpX_fitsAtom post (fl, fq, fi, fs, fo, fa, fb, ft, fn, fk, a1, a2, a3, a4, a5, a6, a7, a8, a9, a10, a11, a12, a13, a14, a15, a16, a17, a18, a19, a20, a21, a22, a23, a24, a25) x r y := by
  have h : i = 0 ∨ i = 1 := by omega
  rcases h with rfl | rfl
  · exact tj_fits0 k hx hr H
  · exact tj_fits1 k hx hr H
end
end
section
section
variable {fl fq fi fs fo fa fb ft fn fk : Int32} {a1 a10 a11 a12 : Nat → Int64} {a2 a3 a4 a5 a6 a7 a8 a9 a13 a14 a15 a16 a17 a18 a19 a20 a21 a22 a23 a24 a25 : Nat → Int32}
/-- the rows listed of the two atoms -/
def tj_L (p q n0 n1 : Nat) (a7 a8 a9 : Nat → Int32) : Prop := ∀ i, i < 2 → a7 i = nI (tj_nn n0 n1 i) ∧ a9 i = nI (tj_nn n0 n1 i) ∧ (tj_nn n0 n1 i = 1 → a8 (16 * i) = nI (tj_row p q i))
def tj_mm (n p w : Nat) : Nat := if n = 1 ∧ p < w then 1 else 0
/-- while atom i's rows are listed: w rows were seen, p is the one that is there (if n = 1) -/
def tj_stI (i n p : Nat) (a7 a8 a9 : Nat → Int32) (w : Nat) (b : (Nat → Int32) × (Nat → Int32) × (Nat → Int32)) : Prop :=
  b.1 i = nI (tj_mm n p w) ∧ b.2.2 i = nI (tj_mm n p w) ∧ (n = 1 → p < w → b.2.1 (16 * i) = nI p) ∧ (∀ j, j ≠ i → b.1 j = a7 j) ∧ (∀ j, j ≠ i → b.2.2 j = a9 j) ∧ (∀ j, j ≠ 16 * i → b.2.1 j = a8 j)
theorem tj_st68 {post : St2 → Prop} {J18 : Int32 → (Nat → Int64) → (Nat → Int32) → (Nat → Int32) → (Nat → Int32) → (Nat → Int32) → (Nat → Int32) → (Nat → Int32) → (Nat → Int32) → (Nat → Int32) → (Nat → Int64) → (Nat → Int64) → (Nat → Int64) → (Nat → Int32) → (Nat → Int32) → (Nat → Int32) → (Nat → Int32) → (Nat → Int32) → (Nat → Int32) → (Nat → Int32) → (Nat → Int32) → (Nat → Int32) → (Nat → Int32) → (Nat → Int32) → (Nat → Int32) → (Nat → Int32) → Prop} {s i f n p : Nat} (k : tj_K s a3 a4 a5 a6) (hi : i < 2) (hf : f ≤ 6) (hn : n ≤ 1) (hp : p < 25) (hb : a1 (f + 2 * i) = tj_wd n p) (h7 : a7 i = 0) (h9 : a9 i = 0)
    (H : ∀ b7 b8 b9 : Nat → Int32, b7 i = nI n → b9 i = nI n → (n = 1 → b8 (16 * i) = nI p) → (∀ j, j ≠ i → b7 j = a7 j) → (∀ j, j ≠ i → b9 j = a9 j) → (∀ j, j ≠ 16 * i → b8 j = a8 j) → J18 (nI (i + 1)) a1 a2 a3 a4 a5 a6 b7 b8 b9 a10 a11 a12 a13 a14 a15 a16 a17 a18 a19 a20 a21 a22 a23 a24 a25) :
    ∃ m, wX_start_68 post J18 1 3 (nI f) (nI i) (nI i) fl fq fi fs fo fa fb ft fn fk m 0 a1 a2 a3 a4 a5 a6 a7 a8 a9 a10 a11 a12 a13 a14 a15 a16 a17 a18 a19 a20 a21 a22 a23 a24 a25 := by
  have hk : nI f + 2 * nI i = nI (f + 2 * i) := by
    rw [show (2 : Int32) = nI 2 from rfl, pk_mul, nI_add]
  have h41 : (4 : Int32) * 1 + nI i = nI (4 + i) := (show ∀ i, i < 2 → (4 : Int32) * 1 + nI i = nI (4 + i) by decide +kernel) i hi
  have h16 : (16 : Int32) * nI i + nI 0 = nI (16 * i) := (show ∀ i, i < 2 → (16 : Int32) * nI i + nI 0 = nI (16 * i) by decide +kernel) i hi
  refine pk_loop (fun m w b => wX_start_68 post J18 1 3 (nI f) (nI i) (nI i) fl fq fi fs fo fa fb ft fn fk m (nI w) a1 a2 a3 a4 a5 a6 b.1 b.2.1 b.2.2 a10 a11 a12 a13 a14 a15 a16 a17 a18 a19 a20 a21 a22 a23 a24 a25) (tj_stI i n p a7 a8 a9) 25 0 (a7, a8, a9) (by omega) ?_ ?_ ?_
  · refine ⟨?_, ?_, fun _ z => absurd z (by omega), fun _ _ => rfl, fun _ _ => rfl, fun _ _ => rfl⟩
    · rw [show tj_mm n p 0 = 0 from if_neg (by omega)]
      exact h7
    · rw [show tj_mm n p 0 = 0 from if_neg (by omega)]
      exact h9
  · intro m b hI
    obtain ⟨g1, g2, g3, g4, g5, g6⟩ := hI
    have hm : tj_mm n p 25 = n := by
      unfold tj_mm
      split <;> omega
    rw [hm] at g1 g2
    refine pk_eq i 2 (fun z => absurd z (by omega)) (fun _ => pk_le 25 25 (fun _ => nm_r (nI_1 i) ?_) (fun z => absurd z (by omega)))
    exact H b.1 b.2.1 b.2.2 g1 g2 (fun z => g3 z (by omega)) g4 g5 g6
  · intro m w b hw hI hW
    refine pk_eq i 2 (fun z => absurd z (by omega)) (fun _ => pk_le 25 w (fun z => absurd z (by omega)) (fun _ => tj_hasRowW (k := f + 2 * i) hk (by omega) (by omega) (by omega) hb (fun hh => ?_) (fun hh => ?_)))
    · obtain ⟨g1, g2, g3, g4, g5, g6⟩ := hI
      have hm : tj_mm n p w = 0 := if_neg (by omega)
      have hm' : tj_mm n p (w + 1) = 1 := if_pos (by omega)
      rw [hm] at g1 g2
      refine br_f (by decide) (tj_fits k hi h41 rfl (br_f (by decide) ?_))
      have c1 : (nI i).toNatClampNeg = i := nI_clamp (by omega)
      have e1 : (16 : Int32) * nI i + b.1 (nI i).toNatClampNeg = nI (16 * i) := by rw [c1, g1, h16]
      refine ⟨pk_in i 4 (by omega), pk_in _ 64 (by omega) e1, nm_r (e' := upd b.2.1 (16 * i) (nI p)) ?_ ⟨pk_in i 4 (by omega), pk_in i 4 (by omega), pk_in i 4 (by omega), nm_r (e' := upd b.2.2 i (nI 1)) ?_ ⟨pk_in i 4 (by omega), pk_in i 4 (by omega), nm_r (e' := upd b.1 i (nI 1)) ?_ (nm_r (nI_1 w) (hW (upd b.1 i (nI 1), upd b.2.1 (16 * i) (nI p), upd b.2.2 i (nI 1)) ?_))⟩⟩⟩
      · rw [e1, nI_clamp (by omega), hh.2, tj_byte p (by omega)]
      · rw [c1, g1, g2]
        rfl
      · rw [c1, g1]
        rfl
      · refine ⟨?_, ?_, fun _ _ => pk_us, fun j hj => (pk_un hj).trans (g4 j hj), fun j hj => (pk_un hj).trans (g5 j hj), fun j hj => (pk_un hj).trans (g6 j hj)⟩
        · rw [hm']
          exact pk_us
        · rw [hm']
          exact pk_us
    · refine br_t rfl (nm_r (nI_1 w) (hW b ?_))
      obtain ⟨g1, g2, g3, g4, g5, g6⟩ := hI
      have hm : tj_mm n p (w + 1) = tj_mm n p w := by
        unfold tj_mm
        by_cases hn1 : n = 1
        · by_cases hpw : p < w
          · rw [if_pos ⟨hn1, by omega⟩, if_pos ⟨hn1, hpw⟩]
          · rw [if_neg (by omega), if_neg (by omega)]
        · rw [if_neg (by omega), if_neg (by omega)]
      refine ⟨?_, ?_, fun z z2 => g3 z (by omega), g4, g5, g6⟩
      · rw [hm]
        exact g1
      · rw [hm]
        exact g2
theorem tj_st18 {post : St2 → Prop} {s i f n p m : Nat} (k : tj_K s a3 a4 a5 a6) (hi : i < 2) (hf : f ≤ 6) (hn : n ≤ 1) (hp : p < 25) (hb : a1 (f + 2 * i) = tj_wd n p)
    (H : ∀ b7 b8 b9 : Nat → Int32, b7 i = nI n → b9 i = nI n → (n = 1 → b8 (16 * i) = nI p) → (∀ j, j ≠ i → b7 j = a7 j) → (∀ j, j ≠ i → b9 j = a9 j) → (∀ j, j ≠ 16 * i → b8 j = a8 j) → wX_start_18 post 1 3 (nI f) fl fq fi fs fo fa fb ft fn fk m (nI (i + 1)) a1 a2 a3 a4 a5 a6 b7 b8 b9 a10 a11 a12 a13 a14 a15 a16 a17 a18 a19 a20 a21 a22 a23 a24 a25) :
    wX_start_18 post 1 3 (nI f) fl fq fi fs fo fa fb ft fn fk (m + 1) (nI i) a1 a2 a3 a4 a5 a6 a7 a8 a9 a10 a11 a12 a13 a14 a15 a16 a17 a18 a19 a20 a21 a22 a23 a24 a25 := by
  have c1 : (nI i).toNatClampNeg = i := nI_clamp (by omega)
  have hbit : ¬ (((3 : Int32) >>> (nI i &&& 31)) &&& 1) = 0 := (show ∀ i, i < 2 → ¬ (((3 : Int32) >>> (nI i &&& 31)) &&& 1) = 0 by decide +kernel) i hi
  have h41 : (4 : Int32) * 1 + nI i = nI (4 + i) := (show ∀ i, i < 2 → (4 : Int32) * 1 + nI i = nI (4 + i) by decide +kernel) i hi
  have h4 : a4 (4 + i) = nI i := by
    have h : i = 0 ∨ i = 1 := by omega
    rcases h with rfl | rfl
    · exact k.2.1
    · exact k.2.2.1
  refine pk_le 4 i (fun z => absurd z (by omega)) (fun _ => ⟨pk_in i 4 (by omega), nm_r (e' := upd a7 i 0) (by rw [c1]) ⟨pk_in i 4 (by omega), nm_r (e' := upd a9 i 0) (by rw [c1]) (br_f hbit ⟨pk_in _ 8 (by omega) h41, nm_r (e' := nI i) (by rw [h41, nI_clamp (by omega), h4]) ?_⟩)⟩⟩)
  refine tj_st68 k hi hf hn hp hb pk_us pk_us (fun b7 b8 b9 g1 g2 g3 g4 g5 g6 => H b7 b8 b9 g1 g2 g3 (fun j hj => (g4 j hj).trans (pk_un hj)) (fun j hj => (g5 j hj).trans (pk_un hj)) g6)
theorem tj_start {post : St2 → Prop} {s f n0 n1 p q : Nat} (k : tj_K s a3 a4 a5 a6) (hf : f ≤ 6) (hn0 : n0 ≤ 1) (hn1 : n1 ≤ 1) (hp : p < 25) (hq : q < 25) (hb0 : a1 f = tj_wd n0 p) (hb1 : a1 (f + 2) = tj_wd n1 q)
    (H : ∀ b7 b8 b9 : Nat → Int32, tj_L p q n0 n1 b7 b8 b9 → post (fl, 1, 3, (nI f), fo, fa, fb, ft, fn, fk, a1, a2, a3, a4, a5, a6, b7, b8, b9, a10, a11, a12, a13, a14, a15, a16, a17, a18, a19, a20, a21, a22, a23, a24, a25)) : wpX_start post (fl, fq, fi, fs, fo, fa, fb, ft, fn, fk, a1, a2, a3, a4, a5, a6, a7, a8, a9, a10, a11, a12, a13, a14, a15, a16, a17, a18, a19, a20, a21, a22, a23, a24, a25) 1 3 (nI f) := by
  refine Exists.intro 5 ?_
  refine tj_st18 (i := 0) k (by omega) hf hn0 hp hb0 (fun b7 b8 b9 g1 g2 g3 g4 g5 g6 => ?_)
  refine tj_st18 (i := 1) k (by omega) hf hn1 hq hb1 (fun c7 c8 c9 e1 e2 e3 e4 e5 e6 => ?_)
  refine br_f (by decide) ⟨pk_in 2 4 (by omega), nm_e ⟨pk_in 2 4 (by omega), nm_e (br_t (by decide) (nm_r (e' := 3) (by decide) ?_))⟩⟩
  refine br_f (by decide) ⟨pk_in 3 4 (by omega), nm_e ⟨pk_in 3 4 (by omega), nm_e (br_t (by decide) (nm_r (e' := 4) (by decide) ?_))⟩⟩
  refine br_t (by decide) (H _ _ _ ?_)
  intro i hi
  have h : i = 0 ∨ i = 1 := by omega
  rcases h with rfl | rfl
  · refine ⟨?_, ?_, fun z => ?_⟩
    · exact (pk_un (by decide)).trans ((pk_un (by decide)).trans ((e4 0 (by decide)).trans g1))
    · exact (pk_un (by decide)).trans ((pk_un (by decide)).trans ((e5 0 (by decide)).trans g2))
    · exact (e6 0 (by decide)).trans (g3 z)
  · refine ⟨?_, ?_, fun z => ?_⟩
    · exact (pk_un (by decide)).trans ((pk_un (by decide)).trans e1)
    · exact (pk_un (by decide)).trans ((pk_un (by decide)).trans e2)
    · exact e3 z
end
end
section
section
variable {fl fq fi fs fo fa fb ft fn fk : Int32} {a1 a10 a11 a12 : Nat → Int64} {a2 a3 a4 a5 a6 a7 a8 a9 a13 a14 a15 a16 a17 a18 a19 a20 a21 a22 a23 a24 a25 : Nat → Int32}
def tj_c1 (s : Nat) : Nat → Nat
  | 0 => 0
  | v + 1 => tj_c1 s v + (if v < 3 ∧ s / 2 ^ v % 2 = 1 then 1 else 0)
def tj_c2 (s : Nat) : Nat → Nat
  | 0 => tj_ac s
  | v + 1 => tj_c2 s v + (if v < 3 ∧ ¬ s / 2 ^ v % 2 = 1 then 1 else 0)
theorem tj_o1 : ∀ s, s < 8 → ∀ v, v < 5 → (v < 3 ∧ s / 2 ^ v % 2 = 1) → tj_ord s (tj_c1 s v) = v ∧ tj_c1 s v < 3 := by decide +kernel
theorem tj_o2 : ∀ s, s < 8 → ∀ v, v < 5 → (v < 3 ∧ ¬ s / 2 ^ v % 2 = 1) → tj_ord s (tj_c2 s v) = v ∧ tj_c2 s v < 3 := by decide +kernel
theorem tj_o3 : ∀ s, s < 8 → tj_c1 s 5 = tj_ac s ∧ tj_c2 s 5 = 3 := by decide +kernel
theorem tj_o4 : ∀ s, s < 8 → ∀ v, v < 5 → (((7 : Int32) &&& nI s) &&& ((1 : Int32) <<< (nI v &&& 31)) = 0 ↔ ¬ (v < 3 ∧ s / 2 ^ v % 2 = 1)) := by decide +kernel
theorem tj_o5 : ∀ s, s < 8 → ∀ v, v < 5 → (((7 : Int32) &&& (nI s ^^^ (-1))) &&& ((1 : Int32) <<< (nI v &&& 31)) = 0 ↔ ¬ (v < 3 ∧ ¬ s / 2 ^ v % 2 = 1)) := by decide +kernel
theorem tj_put {f b : Nat → Int32} {c : Nat} {x : Int32} (h : ∀ j, j < c → b j = f j) (hx : x = f c) : ∀ j, j < c + 1 → upd b c x j = f j := by
  intro j hj
  by_cases e : j = c
  · rw [e, pk_us, hx]
  · rw [pk_un e]
    exact h j (by omega)
theorem tj_addTo {post : St2 → Prop} {c v : Nat} (hc : c < 5) (hv : v < 128) (H : post (fl, fq, fi, fs, fo, fa, fb, ft, (nI (c + 1)), fk, a1, a2, a3, a4, a5, a6, a7, a8, a9, a10, a11, a12, a13, a14, a15, a16, a17, (upd a18 c (nI v)), a19, a20, a21, a22, a23, a24, a25)) : wpX_addToOrder post (fl, fq, fi, fs, fo, fa, fb, ft, (nI c), fk, a1, a2, a3, a4, a5, a6, a7, a8, a9, a10, a11, a12, a13, a14, a15, a16, a17, a18, a19, a20, a21, a22, a23, a24, a25) (nI v) :=
  And.intro (pk_in c 5 hc) (nm_r (e' := upd a18 c (nI v)) (by rw [nI_clamp (by omega), tj_byte v hv]) (nm_r (nI_1 c) H))
theorem tj_ov64 {post : St2 → Prop} {s : Nat} (hs : s < 8) (h6 : a6 1 = nI s) (h18 : ∀ j, j < tj_ac s → a18 j = nI (tj_ord s j))
    (H : ∀ b18 : Nat → Int32, (∀ j, j < 3 → b18 j = nI (tj_ord s j)) → post (fl, 1, fi, fs, fo, fa, fb, ft, 3, fk, a1, a2, a3, a4, a5, a6, a7, a8, a9, a10, a11, a12, a13, a14, a15, a16, a17, b18, a19, a20, a21, a22, a23, a24, a25)) : ∃ m, wX_orderVariables_64 post 7 m 0 fl 1 fi fs fo fa fb ft (nI (tj_ac s)) fk a1 a2 a3 a4 a5 a6 a7 a8 a9 a10 a11 a12 a13 a14 a15 a16 a17 a18 a19 a20 a21 a22 a23 a24 a25 := by
  refine pk_loop (fun m v b => wX_orderVariables_64 post 7 m (nI v) fl 1 fi fs fo fa fb ft (nI (tj_c2 s v)) fk a1 a2 a3 a4 a5 a6 a7 a8 a9 a10 a11 a12 a13 a14 a15 a16 a17 b a19 a20 a21 a22 a23 a24 a25) (fun v b => ∀ j, j < tj_c2 s v → b j = nI (tj_ord s j)) 5 0 a18 (by omega) h18 ?_ ?_
  · intro m b hI
    have h := (tj_o3 s hs).2
    rw [h] at hI
    have g := H b hI
    refine pk_le 5 5 (fun _ => ?_) (fun z => absurd z (by omega))
    rw [h]
    exact g
  · intro m v b hv hI hW
    have e6 : ((7 : Int32) &&& (a6 (1 : Int32).toNatClampNeg ^^^ (-1))) &&& ((1 : Int32) <<< (nI v &&& 31)) = 0 ↔ ¬ (v < 3 ∧ ¬ s / 2 ^ v % 2 = 1) := by
      rw [show (1 : Int32).toNatClampNeg = 1 from rfl, h6]
      exact tj_o5 s hs v hv
    refine pk_le 5 v (fun z => absurd z (by omega)) (fun _ => ⟨pk_in 1 2 (by omega), ek_if e6 (fun z => nm_r (nI_1 v) ?_) (fun z => ?_)⟩)
    · have e : tj_c2 s (v + 1) = tj_c2 s v := by
        show tj_c2 s v + _ = _
        rw [if_neg z]
        rfl
      have t := hW b (by rw [e]; exact hI)
      rw [e] at t
      exact t
    · have z' : v < 3 ∧ ¬ s / 2 ^ v % 2 = 1 := Classical.not_not.mp z
      have o := tj_o2 s hs v hv z'
      have e : tj_c2 s (v + 1) = tj_c2 s v + 1 := by
        show tj_c2 s v + _ = _
        rw [if_pos z']
      have t := hW (upd b (tj_c2 s v) (nI v)) (by rw [e]; exact tj_put (f := fun j => nI (tj_ord s j)) hI (by show nI v = nI (tj_ord s (tj_c2 s v)); rw [o.1]))
      rw [e] at t
      exact tj_addTo (by omega) (by omega) (nm_r (nI_1 v) t)
theorem tj_ov20 {post : St2 → Prop} {s : Nat} (hs : s < 8) (h6 : a6 1 = nI s)
    (H : ∀ b18 : Nat → Int32, (∀ j, j < 3 → b18 j = nI (tj_ord s j)) → post (fl, 1, fi, fs, fo, fa, fb, ft, 3, (nI (tj_ac s)), a1, a2, a3, a4, a5, a6, a7, a8, a9, a10, a11, a12, a13, a14, a15, a16, a17, b18, a19, a20, a21, a22, a23, a24, a25)) : ∃ m, wX_orderVariables_20 post 7 m 0 fl 1 fi fs fo fa fb ft 0 fk a1 a2 a3 a4 a5 a6 a7 a8 a9 a10 a11 a12 a13 a14 a15 a16 a17 a18 a19 a20 a21 a22 a23 a24 a25 := by
  refine pk_loop (fun m v b => wX_orderVariables_20 post 7 m (nI v) fl 1 fi fs fo fa fb ft (nI (tj_c1 s v)) fk a1 a2 a3 a4 a5 a6 a7 a8 a9 a10 a11 a12 a13 a14 a15 a16 a17 b a19 a20 a21 a22 a23 a24 a25) (fun v b => ∀ j, j < tj_c1 s v → b j = nI (tj_ord s j)) 5 0 a18 (by omega) (fun j hj => absurd hj (Nat.not_lt_zero j)) ?_ ?_
  · intro m b hI
    have h := (tj_o3 s hs).1
    rw [h] at hI
    have g := tj_ov64 (a18 := b) (fk := nI (tj_ac s)) hs h6 hI H
    refine pk_le 5 5 (fun _ => ?_) (fun z => absurd z (by omega))
    rw [h]
    exact g
  · intro m v b hv hI hW
    have e6 : ((7 : Int32) &&& a6 (1 : Int32).toNatClampNeg) &&& ((1 : Int32) <<< (nI v &&& 31)) = 0 ↔ ¬ (v < 3 ∧ s / 2 ^ v % 2 = 1) := by
      rw [show (1 : Int32).toNatClampNeg = 1 from rfl, h6]
      exact tj_o4 s hs v hv
    refine pk_le 5 v (fun z => absurd z (by omega)) (fun _ => ⟨pk_in 1 2 (by omega), ek_if e6 (fun z => nm_r (nI_1 v) ?_) (fun z => ?_)⟩)
    · have e : tj_c1 s (v + 1) = tj_c1 s v := by
        show tj_c1 s v + _ = _
        rw [if_neg z]
        rfl
      have t := hW b (by rw [e]; exact hI)
      rw [e] at t
      exact t
    · have z' : v < 3 ∧ s / 2 ^ v % 2 = 1 := Classical.not_not.mp z
      have o := tj_o1 s hs v hv z'
      have e : tj_c1 s (v + 1) = tj_c1 s v + 1 := by
        show tj_c1 s v + _ = _
        rw [if_pos z']
      have t := hW (upd b (tj_c1 s v) (nI v)) (by rw [e]; exact tj_put (f := fun j => nI (tj_ord s j)) hI (by show nI v = nI (tj_ord s (tj_c1 s v)); rw [o.1]))
      rw [e] at t
      exact tj_addTo (by omega) (by omega) (nm_r (nI_1 v) t)
theorem tj_ov {post : St2 → Prop} {s : Nat} (k : tj_K s a3 a4 a5 a6) (hs : s < 8)
    (H : ∀ b18 : Nat → Int32, (∀ j, j < 3 → b18 j = nI (tj_ord s j)) → post (fl, 1, 3, fs, fo, fa, fb, ft, 3, (nI (tj_ac s)), a1, a2, a3, a4, a5, a6, a7, a8, a9, a10, a11, a12, a13, a14, a15, a16, a17, b18, a19, a20, a21, a22, a23, a24, a25)) : wpX_orderVariables post (fl, 1, 3, fs, fo, fa, fb, ft, fn, fk, a1, a2, a3, a4, a5, a6, a7, a8, a9, a10, a11, a12, a13, a14, a15, a16, a17, a18, a19, a20, a21, a22, a23, a24, a25) := by
  unfold wpX_orderVariables
  exact tj_vof3 k (tj_ov20 hs k.2.2.2.2.2.2.2.2.2 H)
end
end
section
section
variable {fl fq fi fs fo fa fb ft fn fk : Int32} {a1 a10 a11 a12 : Nat → Int64} {a2 a3 a4 a5 a6 a7 a8 a9 a13 a14 a15 a16 a17 a18 a19 a20 a21 a22 a23 a24 a25 : Nat → Int32}
/-- atom i's trie, n rows (0 or 1), when the first d variables have values -/
def tj_Ti (p q s n i d : Nat) (a19 a20 a21 a22 a23 a24 : Nat → Int32) : Prop :=
  a19 i = nI 2 ∧ (∀ j, j < 2 → a20 (3 * i + j) = nI (tj_tv s i j)) ∧ (n = 1 → ∀ j, j < 2 → a21 (48 * i + 16 * j) = nI (tj_val p q i (tj_tv s i j))) ∧ a24 i = nI (tj_ct s i d) ∧ (∀ j, j ≤ tj_ct s i d → a22 (4 * i + j) = 0 ∧ a23 (4 * i + j) = nI n)
/-- outside atom i's m places nothing changed -/
def tj_fr (m i : Nat) (a b : Nat → Int32) : Prop := ∀ j, j / m ≠ i → b j = a j
theorem tj_Tfr {p q s n i i' d : Nat} {a19 a20 a21 a22 a23 a24 b19 b20 b21 b22 b23 b24 : Nat → Int32} (hs : s < 8) (hi : i < 2) (hd : d < 4) (hne : i ≠ i') (T : tj_Ti p q s n i d a19 a20 a21 a22 a23 a24)
    (f19 : tj_fr 1 i' a19 b19) (f20 : tj_fr 3 i' a20 b20) (f21 : tj_fr 48 i' a21 b21) (f22 : tj_fr 4 i' a22 b22) (f23 : tj_fr 4 i' a23 b23) (f24 : tj_fr 1 i' a24 b24) : tj_Ti p q s n i d b19 b20 b21 b22 b23 b24 := by
  obtain ⟨t1, t2, t3, t4, t5⟩ := T
  have hc := tj_f3 s hs i hi d hd
  refine ⟨?_, fun j hj => ?_, fun hn j hj => ?_, ?_, fun j hj => ?_⟩
  · rw [f19 i (by omega)]
    exact t1
  · rw [f20 (3 * i + j) (by omega)]
    exact t2 j hj
  · rw [f21 (48 * i + 16 * j) (by omega)]
    exact t3 hn j hj
  · rw [f24 i (by omega)]
    exact t4
  · rw [f22 (4 * i + j) (by omega), f23 (4 * i + j) (by omega)]
    exact t5 j hj
theorem tj_frU {m i k : Nat} {a b : Nat → Int32} {x : Int32} (h : tj_fr m i a b) (hk : k / m = i) : tj_fr m i a (upd b k x) := by
  intro j hj
  rw [pk_un (fun z => hj (by rw [z]; exact hk))]
  exact h j hj
theorem tj_frR {m i : Nat} {a : Nat → Int32} : tj_fr m i a a := fun _ _ => rfl
theorem tj_j1 : ∀ i, i < 2 → ∀ v, v < 3 → (((nI (3 * (i + 1)) >>> (nI v &&& 31)) &&& 1) = 0 ↔ tj_has i v = false) := by decide +kernel
theorem tj_j2 : ∀ i, i < 2 → ∀ j, j < 3 → (3 : Int32) * nI i + nI j = nI (3 * i + j) := by decide +kernel
theorem tj_j3 : ∀ i, i < 2 → ∀ j, j < 3 → ((48 : Int32) * nI i + 16 * nI j) + 0 = nI (48 * i + 16 * j) := by decide +kernel
theorem tj_j4 : ∀ i, i < 2 → ∀ j, j < 4 → (4 : Int32) * nI i + nI j = nI (4 * i + j) := by decide +kernel
/-- the first loop of buildTrie: atom i's variables in the order -/
theorem tj_bt25 {post : St2 → Prop} {s i : Nat} {x2 : Int32} (hs : s < 8) (hi : i < 2) (h18 : ∀ j, j < 3 → a18 j = nI (tj_ord s j)) (h19 : a19 i = nI 0)
    (H : ∀ b19 b20 : Nat → Int32, b19 i = nI 2 → (∀ j, j < 2 → b20 (3 * i + j) = nI (tj_tv s i j)) → tj_fr 1 i a19 b19 → tj_fr 3 i a20 b20 → ∃ m, wX_buildTrie_96 post (nI i) x2 m 0 0 fl fq fi fs fo fa fb ft 3 fk a1 a2 a3 a4 a5 a6 a7 a8 a9 a10 a11 a12 a13 a14 a15 a16 a17 a18 b19 b20 a21 a22 a23 a24 a25) :
    ∃ m, wX_buildTrie_25 post (nI i) x2 (nI (3 * (i + 1))) fl fq fi fs fo fa fb ft 3 fk m 0 a1 a2 a3 a4 a5 a6 a7 a8 a9 a10 a11 a12 a13 a14 a15 a16 a17 a18 a19 a20 a21 a22 a23 a24 a25 := by
  have c1 : (nI i).toNatClampNeg = i := nI_clamp (by omega)
  refine pk_loop (fun m d b => wX_buildTrie_25 post (nI i) x2 (nI (3 * (i + 1))) fl fq fi fs fo fa fb ft 3 fk m (nI d) a1 a2 a3 a4 a5 a6 a7 a8 a9 a10 a11 a12 a13 a14 a15 a16 a17 a18 b.1 b.2 a21 a22 a23 a24 a25) (fun d b => b.1 i = nI (tj_ct s i d) ∧ (∀ j, j < tj_ct s i d → b.2 (3 * i + j) = nI (tj_tv s i j)) ∧ tj_fr 1 i a19 b.1 ∧ tj_fr 3 i a20 b.2) 3 0 (a19, a20) (by omega) ⟨h19, fun j hj => absurd hj (Nat.not_lt_zero j), tj_frR, tj_frR⟩ ?_ ?_
  · intro m b hI
    rw [tj_f4 s hs i hi] at hI
    exact pk_le 3 3 (fun _ => H b.1 b.2 hI.1 hI.2.1 hI.2.2.1 hI.2.2.2) (fun z => absurd z (by omega))
  · intro m d b hd hI hW
    obtain ⟨g1, g2, g3, g4⟩ := hI
    have cd : (nI d).toNatClampNeg = d := nI_clamp (by omega)
    have ho := tj_f5 s hs d hd
    have e1 : ((nI (3 * (i + 1)) >>> (a18 (nI d).toNatClampNeg &&& 31)) &&& 1) = 0 ↔ tj_has i (tj_ord s d) = false := by
      rw [cd, h18 d hd]
      exact tj_j1 i hi _ ho
    refine pk_le 3 d (fun z => absurd z (by omega)) (fun _ => ⟨pk_in d 5 (by omega), ek_if e1 (fun z => nm_r (nI_1 d) (hW b ?_)) (fun z => ?_)⟩)
    · have f := tj_f2 s hs i hi d hd z
      rw [f.2.1]
      exact ⟨g1, g2, g3, g4⟩
    · have f := tj_f1 s hs i hi d hd (by cases h : tj_has i (tj_ord s d) with | true => rfl | false => exact absurd h z)
      have e2 : (3 : Int32) * nI i + b.1 (nI i).toNatClampNeg = nI (3 * i + tj_ct s i d) := by
        rw [c1, g1]
        exact tj_j2 i hi _ (by omega)
      refine ⟨pk_in i 4 (by omega), pk_in d 5 (by omega), pk_in _ 12 (by omega) e2, nm_r (e' := upd b.2 (3 * i + tj_ct s i d) (nI (tj_ord s d))) ?_ ⟨pk_in i 4 (by omega), pk_in i 4 (by omega), nm_r (e' := upd b.1 i (nI (tj_ct s i d + 1))) ?_ (nm_r (nI_1 d) (hW (upd b.1 i (nI (tj_ct s i d + 1)), upd b.2 (3 * i + tj_ct s i d) (nI (tj_ord s d))) ?_))⟩⟩
      · rw [e2, nI_clamp (by omega), cd, tj_nar (h18 d hd) (by omega)]
      · rw [c1, g1, nI_1, tj_byte _ (by omega)]
      · rw [f.2.2]
        refine ⟨pk_us, fun j hj => ?_, tj_frU g3 (by omega), tj_frU g4 (by omega)⟩
        by_cases e : j = tj_ct s i d
        · show upd b.2 (3 * i + tj_ct s i d) (nI (tj_ord s d)) (3 * i + j) = _
          rw [e, pk_us, f.2.1]
        · show upd b.2 (3 * i + tj_ct s i d) (nI (tj_ord s d)) (3 * i + j) = _
          rw [pk_un (by omega)]
          exact g2 j (by omega)
theorem tj_sortIn {post : St2 → Prop} {p q s i : Nat} {y : Int32} (k : tj_K s a3 a4 a5 a6) (hs : s < 8) (hp : p < 25) (hq : q < 25) (hi : i < 2) (hy : y = nI (tj_row p q i)) (h19 : a19 i = nI 2) (h20 : ∀ j, j < 2 → a20 (3 * i + j) = nI (tj_tv s i j))
    (H : ∀ b15 b21 : Nat → Int32, (∀ j, j < 2 → b21 (48 * i + 16 * j) = nI (tj_val p q i (tj_tv s i j))) → tj_fr 48 i a21 b21 → post (fl, fq, fi, fs, fo, fa, fb, ft, fn, fk, a1, a2, a3, a4, a5, a6, a7, a8, a9, a10, a11, a12, a13, a14, b15, a16, a17, a18, a19, a20, b21, a22, a23, a24, a25)) : wpX_sortIn post (fl, fq, fi, fs, fo, fa, fb, ft, fn, fk, a1, a2, a3, a4, a5, a6, a7, a8, a9, a10, a11, a12, a13, a14, a15, a16, a17, a18, a19, a20, a21, a22, a23, a24, a25) (nI i) (nI (4 + i)) y 0 := by
  have c1 : (nI i).toNatClampNeg = i := nI_clamp (by omega)
  have d0 : ¬ a19 (nI i).toNatClampNeg ≤ 0 := by
    rw [c1, h19]
    decide
  have d1 : ¬ a19 (nI i).toNatClampNeg ≤ 1 := by
    rw [c1, h19]
    decide
  have d2 : a19 (nI i).toNatClampNeg ≤ 2 := by
    rw [c1, h19]
    decide
  have i0 : (3 : Int32) * nI i + 0 = nI (3 * i) := tj_j2 i hi 0 (by decide)
  have i1 : (3 : Int32) * nI i + 1 = nI (3 * i + 1) := tj_j2 i hi 1 (by decide)
  have w0 : a20 ((3 : Int32) * nI i + 0).toNatClampNeg = nI (tj_tv s i 0) := by
    rw [i0, nI_clamp (by omega)]
    exact h20 0 (by decide)
  have w1 : a20 ((3 : Int32) * nI i + 1).toNatClampNeg = nI (tj_tv s i 1) := by
    rw [i1, nI_clamp (by omega)]
    exact h20 1 (by decide)
  have v0 := tj_val5 (i := i) (v := tj_tv s i 0) hp hq
  have v1 := tj_val5 (i := i) (v := tj_tv s i 1) hp hq
  have m0 : ((48 : Int32) * nI i + 16 * 0) + 0 = nI (48 * i) := tj_j3 i hi 0 (by decide)
  have m1 : ((48 : Int32) * nI i + 16 * 1) + 0 = nI (48 * i + 16) := tj_j3 i hi 1 (by decide)
  refine Exists.intro 3 ?_
  refine And.intro (pk_in i 4 (by omega)) (br_f d0 ⟨pk_in _ 12 (by omega) i0, tj_key (p := p) (q := q) (i := i) (v := tj_tv s i 0) k hp hq hi (tj_f7 s hs i hi 0 (by decide)) rfl hy (by rw [w0]) ⟨pk_in 0 5 (by omega), nm_r (e' := upd a15 0 (nI (tj_val p q i (tj_tv s i 0)))) (by rw [tj_byte _ (by omega)]; rfl) (nm_r (e' := 1) (by decide) ?_)⟩⟩)
  refine And.intro (pk_in i 4 (by omega)) (br_f d1 ⟨pk_in _ 12 (by omega) i1, tj_key (p := p) (q := q) (i := i) (v := tj_tv s i 1) k hp hq hi (tj_f7 s hs i hi 1 (by decide)) rfl hy (by rw [w1]) ⟨pk_in 1 5 (by omega), nm_r (e' := upd (upd a15 0 (nI (tj_val p q i (tj_tv s i 0)))) 1 (nI (tj_val p q i (tj_tv s i 1)))) (by rw [tj_byte _ (by omega)]; rfl) (nm_r (e' := 2) (by decide) ?_)⟩⟩)
  refine And.intro (pk_in i 4 (by omega)) (br_t d2 (Exists.intro 1 (br_t (by decide) (Exists.intro 3 ?_))))
  refine And.intro (pk_in i 4 (by omega)) (br_f d0 ⟨pk_in 0 5 (by omega), pk_in _ 192 (by omega) m0, nm_r (e' := upd a21 (48 * i) (nI (tj_val p q i (tj_tv s i 0)))) ?_ (nm_r (e' := 1) (by decide) ?_)⟩)
  · rw [m0, nI_clamp (by omega)]
    exact congrArg _ (tj_nar ((pk_un (by decide)).trans pk_us) (by omega))
  refine And.intro (pk_in i 4 (by omega)) (br_f d1 ⟨pk_in 1 5 (by omega), pk_in _ 192 (by omega) m1, nm_r (e' := upd (upd a21 (48 * i) (nI (tj_val p q i (tj_tv s i 0)))) (48 * i + 16) (nI (tj_val p q i (tj_tv s i 1)))) ?_ (nm_r (e' := 2) (by decide) ?_)⟩)
  · rw [m1, nI_clamp (by omega)]
    exact congrArg _ (tj_nar pk_us (by omega))
  refine And.intro (pk_in i 4 (by omega)) (br_t d2 (H _ _ ?_ ?_))
  · intro j hj
    have h : j = 0 ∨ j = 1 := by omega
    rcases h with rfl | rfl
    · exact (pk_un (by omega)).trans pk_us
    · exact pk_us
  · exact tj_frU (tj_frU tj_frR (by omega)) (by omega)
theorem tj_build {post : St2 → Prop} {p q s n0 n1 i : Nat} (k : tj_K s a3 a4 a5 a6) (hs : s < 8) (hp : p < 25) (hq : q < 25) (hi : i < 2) (hn0 : n0 ≤ 1) (hn1 : n1 ≤ 1) (h18 : ∀ j, j < 3 → a18 j = nI (tj_ord s j)) (hL : tj_L p q n0 n1 a7 a8 a9)
    (H : ∀ b15 b19 b20 b21 b22 b23 b24 : Nat → Int32, tj_Ti p q s (tj_nn n0 n1 i) i 0 b19 b20 b21 b22 b23 b24 → tj_fr 1 i a19 b19 → tj_fr 3 i a20 b20 → tj_fr 48 i a21 b21 → tj_fr 4 i a22 b22 → tj_fr 4 i a23 b23 → tj_fr 1 i a24 b24 → post (fl, 1, fi, fs, fo, fa, fb, ft, 3, fk, a1, a2, a3, a4, a5, a6, a7, a8, a9, a10, a11, a12, a13, a14, b15, a16, a17, a18, b19, b20, b21, b22, b23, b24, a25)) :
    wpX_buildTrie post (fl, 1, fi, fs, fo, fa, fb, ft, 3, fk, a1, a2, a3, a4, a5, a6, a7, a8, a9, a10, a11, a12, a13, a14, a15, a16, a17, a18, a19, a20, a21, a22, a23, a24, a25) (nI i) := by
  have c1 : (nI i).toNatClampNeg = i := nI_clamp (by omega)
  have h41 : (4 : Int32) * 1 + nI i = nI (4 + i) := (show ∀ i, i < 2 → (4 : Int32) * 1 + nI i = nI (4 + i) by decide +kernel) i hi
  have h4i : (4 : Int32) * nI i = nI (4 * i) := (show ∀ i, i < 2 → (4 : Int32) * nI i = nI (4 * i) by decide +kernel) i hi
  obtain ⟨l7, l9, l8⟩ := hL i hi
  have hn : tj_nn n0 n1 i ≤ 1 := by
    unfold tj_nn
    split <;> omega
  unfold wpX_buildTrie
  refine nm_r h41 (tj_voa k hi rfl ⟨pk_in i 4 (by omega), nm_r (e' := upd a19 i (nI 0)) (by rw [c1]; rfl) (tj_bt25 hs hi h18 pk_us (fun b19 b20 g1 g2 g3 g4 => ?_))⟩)
  have g3' : tj_fr 1 i a19 b19 := fun j hj => (g3 j hj).trans (pk_un (by omega))
  have fin : ∀ (n : Nat) (b15 b21 : Nat → Int32) (m : Nat), n = tj_nn n0 n1 i → (n = 1 → ∀ j, j < 2 → b21 (48 * i + 16 * j) = nI (tj_val p q i (tj_tv s i j))) → tj_fr 48 i a21 b21 → wX_buildTrie_96 post (nI i) (nI (4 + i)) (m + 1) (nI n) (nI n) fl 1 fi fs fo fa fb ft 3 fk a1 a2 a3 a4 a5 a6 a7 a8 a9 a10 a11 a12 a13 a14 b15 a16 a17 a18 b19 b20 b21 a22 a23 a24 a25 := by
    intro n b15 b21 m en hv hf
    have hle : a7 (nI i).toNatClampNeg ≤ nI n := by
      rw [c1, l7, en]
      exact nI_le (Nat.le_refl _) (by omega)
    refine And.intro (pk_in i 4 (by omega)) (br_t hle ⟨pk_in i 4 (by omega), nm_r (e' := upd a24 i (nI 0)) (by rw [c1]; rfl) ⟨pk_in (4 * i) 16 (by omega) h4i, nm_r (e' := upd a22 (4 * i) 0) (by rw [h4i, nI_clamp (by omega)]) ⟨pk_in (4 * i) 16 (by omega) h4i, nm_r (e' := upd a23 (4 * i) (nI n)) (by rw [h4i, nI_clamp (by omega), tj_byte n (by omega)]) ?_⟩⟩⟩)
    refine H _ _ _ _ _ _ _ ⟨g1, g2, fun z => hv (en.trans z), pk_us, fun j hj => ?_⟩ g3' g4 hf (tj_frU tj_frR (by omega)) (tj_frU tj_frR (by omega)) (tj_frU tj_frR (by omega))
    have hj0 : j = 0 := by
      have : j ≤ 0 := hj
      omega
    subst hj0
    rw [← en]
    exact ⟨pk_us, pk_us⟩
  have hcase : tj_nn n0 n1 i = 0 ∨ tj_nn n0 n1 i = 1 := by omega
  rcases hcase with h0 | h0
  · exact Exists.intro 1 (fin 0 a15 a21 0 h0.symm (fun z => absurd z (by omega)) tj_frR)
  · rw [h0] at l7 l9
    have d0 : ¬ a7 (nI i).toNatClampNeg ≤ 0 := by
      rw [c1, l7]
      decide
    have d1 : ¬ ((a9 (nI i).toNatClampNeg >>> ((0 : Int32) &&& 31)) &&& 1) = 0 := by
      rw [c1, l9]
      decide
    have e1 : (16 : Int32) * nI i + 0 = nI (16 * i) := (show ∀ i, i < 2 → (16 : Int32) * nI i + 0 = nI (16 * i) by decide +kernel) i hi
    refine Exists.intro 2 (And.intro (pk_in i 4 (by omega)) (br_f d0 ⟨pk_in i 4 (by omega), br_f d1 ⟨pk_in (16 * i) 64 (by omega) e1, tj_sortIn (p := p) (q := q) k hs hp hq hi ?_ g1 g2 (fun b15 b21 v1 v2 => nm_r (e' := nI 1) (by decide) (nm_r (e' := nI 1) (by decide) (fin 1 b15 b21 0 h0.symm (fun _ => v1) v2)))⟩⟩))
    rw [e1, nI_clamp (by omega)]
    exact l8 h0
end
end
section
section
variable {fl fq fi fs fo fa fb ft fn fk : Int32} {a1 a10 a11 a12 : Nat → Int64} {a2 a3 a4 a5 a6 a7 a8 a9 a13 a14 a15 a16 a17 a18 a19 a20 a21 a22 a23 a24 a25 : Nat → Int32}
theorem tj_b3 : ∀ i, i < 2 → ¬ (((3 : Int32) >>> (nI i &&& 31)) &&& 1) = 0 := by decide +kernel
theorem tj_wait {post : Int32 → Prop} {p q s n i d v : Nat} (hs : s < 8) (hi : i < 2) (hd : d < 3) (hv : v = tj_ord s d) (T : tj_Ti p q s n i d a19 a20 a21 a22 a23 a24) (H1 : tj_has i v = true → post 1) (H0 : tj_has i v = false → post 0) : wpX_waitsFor post (fl, fq, 3, fs, fo, fa, fb, ft, fn, fk, a1, a2, a3, a4, a5, a6, a7, a8, a9, a10, a11, a12, a13, a14, a15, a16, a17, a18, a19, a20, a21, a22, a23, a24, a25) (nI i) (nI v) := by
  have c1 : (nI i).toNatClampNeg = i := nI_clamp (by omega)
  obtain ⟨t1, t2, t3, t4, t5⟩ := T
  have hc := tj_f3 s hs i hi d (by omega)
  have ho := tj_f5 s hs d hd
  have e24 : a24 (nI i).toNatClampNeg = nI (tj_ct s i d) := by rw [c1, t4]
  have e19 : a19 (nI i).toNatClampNeg = nI 2 := by rw [c1, t1]
  have e3 : (3 : Int32) * nI i + a24 (nI i).toNatClampNeg = nI (3 * i + tj_ct s i d) := by
    rw [e24]
    exact tj_j2 i hi _ (by omega)
  refine br_f (tj_b3 i hi) ⟨pk_in i 4 (by omega), pk_in i 4 (by omega), pk_lt (tj_ct s i d) 2 (fun z => ⟨pk_in i 4 (by omega), pk_in _ 12 (by omega) e3, ?_⟩) (fun z => ?_) e24 e19⟩
  · have e20 : a20 ((3 : Int32) * nI i + a24 (nI i).toNatClampNeg).toNatClampNeg = nI (tj_tv s i (tj_ct s i d)) := by
      rw [e3, nI_clamp (by omega), t2 _ z]
    cases hh : tj_has i v with
    | true =>
      have f := tj_f1 s hs i hi d hd (by rw [← hv]; exact hh)
      exact br_t (by rw [e20, f.2.1, hv]) (H1 hh)
    | false =>
      have f := tj_f2 s hs i hi d hd (by rw [← hv]; exact hh)
      refine br_f (fun g => f.1 z ?_) (H0 hh)
      have g' : nI (tj_tv s i (tj_ct s i d)) = nI v := e20.symm.trans g
      rw [← hv]
      refine (nI_eq ?_ (by omega)).mp g'
      have h7 : i ≤ tj_tv s i (tj_ct s i d) ∧ tj_tv s i (tj_ct s i d) ≤ i + 1 := of_decide_eq_true (tj_f7 s hs i hi _ z)
      omega
  · cases hh : tj_has i v with
    | true =>
      have f := tj_f1 s hs i hi d hd (by rw [← hv]; exact hh)
      exact absurd f.1 (by omega)
    | false => exact H0 hh
theorem tj_seek {post : Int32 → Prop} {p q s n i d x w : Nat} (hs : s < 8) (hi : i < 2) (hd : d < 3) (hn : n ≤ 1) (T : tj_Ti p q s n i d a19 a20 a21 a22 a23 a24) (hc : tj_ct s i d < 2) (hw : tj_val p q i (tj_tv s i (tj_ct s i d)) = w) (hw5 : w < 5) (hx : x < 10) (H : post (nI (if n = 1 ∧ w < x then 1 else 0))) : wpX_seek post (fl, fq, fi, fs, fo, fa, fb, ft, fn, fk, a1, a2, a3, a4, a5, a6, a7, a8, a9, a10, a11, a12, a13, a14, a15, a16, a17, a18, a19, a20, a21, a22, a23, a24, a25) (nI i) (nI x) := by
  have c1 : (nI i).toNatClampNeg = i := nI_clamp (by omega)
  obtain ⟨t1, t2, t3, t4, t5⟩ := T
  have t6 := t5 _ (Nat.le_refl _)
  have e4 : (4 : Int32) * nI i + nI (tj_ct s i d) = nI (4 * i + tj_ct s i d) := tj_j4 i hi _ (by omega)
  have m3 : ((48 : Int32) * nI i + 16 * nI (tj_ct s i d)) + nI 0 = nI (48 * i + 16 * tj_ct s i d) := tj_j3 i hi _ (by omega)
  refine And.intro (pk_in i 4 (by omega)) (nm_r (e' := nI (tj_ct s i d)) (by rw [c1]; exact t4) ⟨pk_in _ 16 (by omega) e4, nm_r (e' := nI 0) (by rw [e4, nI_clamp (by omega)]; exact t6.1) ⟨pk_in _ 16 (by omega) e4, nm_r (e' := nI n) (by rw [e4, nI_clamp (by omega)]; exact t6.2) ?_⟩⟩)
  have hcase : n = 0 ∨ n = 1 := by omega
  rcases hcase with h0 | h0
  · subst h0
    rw [if_neg (by omega)] at H
    exact Exists.intro 1 (br_t (by decide) H)
  · subst h0
    have e21 : a21 (((48 : Int32) * nI i + 16 * nI (tj_ct s i d)) + nI 0).toNatClampNeg = nI w := by
      rw [m3, nI_clamp (by omega), t3 rfl _ hc, hw]
    refine Exists.intro 2 (br_f (by decide) ⟨by decide, nm_r (e' := nI 0) (by decide) (And.intro (pk_in _ 192 (by omega) m3) (pk_le x w (fun z => br_t (by decide) ?_) (fun z => nm_r (e' := nI 1) (by decide) (br_t (by decide) ?_)) rfl e21))⟩)
    · rw [if_neg (by omega)] at H
      exact H
    · rw [if_pos ⟨rfl, z⟩] at H
      exact H
theorem tj_cvS {post : Int32 → Prop} {J5 : Int32 → Int32 → Prop} {p q s n i d v y m : Nat} {g : Int32} (hs : s < 8) (hp : p < 25) (hq : q < 25) (hi : i < 2) (hd : d < 3) (hn : n ≤ 1) (hv : v = tj_ord s d) (hy : y < 10) (T : tj_Ti p q s n i d a19 a20 a21 a22 a23 a24)
    (H0 : tj_has i v = false → wX_commonValue_16 post J5 (nI v) fl fq 3 fs fo fa fb ft fn fk a1 a2 a3 a4 a5 a6 a7 a8 a9 a10 a11 a12 a13 a14 a15 a16 a17 a18 a19 a20 a21 a22 a23 a24 a25 m (nI y) g (nI (i + 1)))
    (H1 : tj_has i v = true → n = 1 → y ≤ tj_val p q i v → wX_commonValue_16 post J5 (nI v) fl fq 3 fs fo fa fb ft fn fk a1 a2 a3 a4 a5 a6 a7 a8 a9 a10 a11 a12 a13 a14 a15 a16 a17 a18 a19 a20 a21 a22 a23 a24 a25 m (nI (tj_val p q i v)) (if tj_val p q i v ≤ y then g else 0) (nI (i + 1)))
    (H2 : tj_has i v = true → ¬ (n = 1 ∧ y ≤ tj_val p q i v) → post (-1)) :
    wX_commonValue_16 post J5 (nI v) fl fq 3 fs fo fa fb ft fn fk a1 a2 a3 a4 a5 a6 a7 a8 a9 a10 a11 a12 a13 a14 a15 a16 a17 a18 a19 a20 a21 a22 a23 a24 a25 (m + 1) (nI y) g (nI i) := by
  have c1 : (nI i).toNatClampNeg = i := nI_clamp (by omega)
  have hw5 := tj_val5 (i := i) (v := v) hp hq
  refine pk_le 4 i (fun z => absurd z (by omega)) (fun _ => tj_wait hs hi hd hv T (fun hh => br_f (by decide) ?_) (fun hh => br_t rfl (nm_r (nI_1 i) (H0 hh))))
  have f := tj_f1 s hs i hi d hd (by rw [← hv]; exact hh)
  have hw : tj_val p q i (tj_tv s i (tj_ct s i d)) = tj_val p q i v := by rw [f.2.1, hv]
  refine tj_seek (x := y) hs hi hd hn T f.1 hw hw5 hy ?_
  obtain ⟨t1, t2, t3, t4, t5⟩ := T
  have t6 := t5 _ (Nat.le_refl _)
  have e24 : a24 (nI i).toNatClampNeg = nI (tj_ct s i d) := by rw [c1, t4]
  have e4 : (4 : Int32) * nI i + a24 (nI i).toNatClampNeg = nI (4 * i + tj_ct s i d) := by
    rw [e24]
    exact tj_j4 i hi _ (by omega)
  have e23 : a23 ((4 : Int32) * nI i + a24 (nI i).toNatClampNeg).toNatClampNeg = nI n := by
    rw [e4, nI_clamp (by omega), t6.2]
  by_cases hy2 : n = 1 ∧ y ≤ tj_val p q i v
  · rw [if_neg (by omega)]
    have hn1 := hy2.1
    subst hn1
    have m3 : ((48 : Int32) * nI i + 16 * a24 (nI i).toNatClampNeg) + nI 0 = nI (48 * i + 16 * tj_ct s i d) := by
      rw [e24]
      exact tj_j3 i hi _ (by omega)
    have e21 : a21 (((48 : Int32) * nI i + 16 * a24 (nI i).toNatClampNeg) + nI 0).toNatClampNeg = nI (tj_val p q i v) := by
      rw [m3, nI_clamp (by omega), t3 rfl _ f.1, hw]
    have h1 := H1 hh rfl hy2.2
    refine And.intro (pk_in i 4 (by omega)) (And.intro (pk_in _ 16 (by omega) e4) (br_t (by rw [e23]; decide) ⟨pk_in i 4 (by omega), And.intro (pk_in _ 192 (by omega) m3) ?_⟩))
    rw [e21]
    refine pk_le (tj_val p q i v) y (fun z => nm_r (nI_1 i) ?_) (fun z => nm_r (nI_1 i) ?_)
    · rw [if_pos z] at h1
      exact h1
    · rw [if_neg (by omega)] at h1
      exact h1
  · refine And.intro (pk_in i 4 (by omega)) (And.intro (pk_in _ 16 (by omega) e4) (br_f ?_ (H2 hh hy2)))
    rw [e23]
    have hcase : n = 0 ∨ n = 1 := by omega
    rcases hcase with h0 | h0
    · rw [h0, if_neg (by omega)]
      decide
    · rw [h0, if_pos (by omega)]
      decide
theorem tj_cvE {post : Int32 → Prop} {J5 : Int32 → Int32 → Prop} {v y g : Int32} {m : Nat} (H : J5 y g) : wX_commonValue_16 post J5 v fl fq 3 fs fo fa fb ft fn fk a1 a2 a3 a4 a5 a6 a7 a8 a9 a10 a11 a12 a13 a14 a15 a16 a17 a18 a19 a20 a21 a22 a23 a24 a25 (m + 3) y g (nI 2) := by
  refine br_f (by decide) (br_t (by decide) (br_t rfl (nm_r (e' := 3) (by decide) ?_)))
  refine br_f (by decide) (br_t (by decide) (br_t rfl (nm_r (e' := 4) (by decide) ?_)))
  exact br_t (by decide) H
/-- variable v can have a value in both atoms' rows -/
def tj_C (p q n0 n1 v : Nat) : Prop := (tj_has 0 v = true → n0 = 1) ∧ (tj_has 1 v = true → n1 = 1) ∧ (v = 1 → p % 5 = q / 5)
theorem tj_cvR {post : Int32 → Prop} {J5 : Int32 → Int32 → Prop} {p q s n0 n1 d v y : Nat} (hs : s < 8) (hp : p < 25) (hq : q < 25) (hd : d < 3) (hn0 : n0 ≤ 1) (hn1 : n1 ≤ 1) (hv : v = tj_ord s d) (hy : y < 10) (T0 : tj_Ti p q s n0 0 d a19 a20 a21 a22 a23 a24) (T1 : tj_Ti p q s n1 1 d a19 a20 a21 a22 a23 a24)
    (HJ : tj_C p q n0 n1 v → y ≤ tj_vv p q v → J5 (nI (tj_vv p q v)) (if tj_vv p q v ≤ y then 1 else 0))
    (HK : v = 1 → y ≤ p % 5 → p % 5 < q / 5 → J5 (nI (q / 5)) 0)
    (HF : ¬ (tj_C p q n0 n1 v ∧ y ≤ tj_vv p q v) → post (-1)) :
    ∃ m, wX_commonValue_16 post J5 (nI v) fl fq 3 fs fo fa fb ft fn fk a1 a2 a3 a4 a5 a6 a7 a8 a9 a10 a11 a12 a13 a14 a15 a16 a17 a18 a19 a20 a21 a22 a23 a24 a25 m (nI y) 1 0 := by
  have ho := tj_f5 s hs d hd
  rw [← hv] at ho
  refine Exists.intro 5 ?_
  rcases tj_has3 v ho with ⟨h, g0, g1⟩ | ⟨h, g0, g1⟩ | ⟨h, g0, g1⟩
  · have e0 : tj_val p q 0 v = tj_vv p q v := by rw [h]; rfl
    refine tj_cvS (i := 0) (m := 4) hs hp hq (by omega) hd hn0 hv hy T0 (fun z => absurd z (by rw [g0]; decide)) (fun _ z1 z2 => ?_) (fun _ z => HF (fun c => z ⟨c.1.1 g0, by rw [e0]; exact c.2⟩))
    rw [e0] at z2 ⊢
    refine tj_cvS (i := 1) (m := 3) hs hp hq (by omega) hd hn1 hv (by have := tj_vv5 (v := v) hp hq; omega) T1 (fun _ => tj_cvE (HJ ⟨fun _ => z1, fun z => absurd z (by rw [g1]; decide), fun z => absurd z (by omega)⟩ z2)) (fun z => absurd z (by rw [g1]; decide)) (fun z => absurd z (by rw [g1]; decide))
  · have e0 : tj_val p q 0 v = tj_vv p q v := by rw [h]; rfl
    have e1 : tj_val p q 1 v = q / 5 := by rw [h]; rfl
    have e2 : tj_vv p q v = p % 5 := by rw [h]; rfl
    refine tj_cvS (i := 0) (m := 4) hs hp hq (by omega) hd hn0 hv hy T0 (fun z => absurd z (by rw [g0]; decide)) (fun _ z1 z2 => ?_) (fun _ z => HF (fun c => z ⟨c.1.1 g0, by rw [e0]; exact c.2⟩))
    rw [e0] at z2 ⊢
    refine tj_cvS (i := 1) (m := 3) hs hp hq (by omega) hd hn1 hv (by have := tj_vv5 (v := v) hp hq; omega) T1 (fun z => absurd z (by rw [g1]; decide)) (fun _ z3 z4 => tj_cvE ?_) (fun _ z => HF (fun c => z ⟨c.1.2.1 g1, by rw [e1, e2]; have := c.1.2.2 h; omega⟩))
    rw [e1] at z4 ⊢
    by_cases e : q / 5 ≤ tj_vv p q v
    · rw [if_pos e]
      have e' : q / 5 = tj_vv p q v := by omega
      rw [e']
      exact HJ ⟨fun _ => z1, fun _ => z3, fun _ => by omega⟩ z2
    · rw [if_neg e]
      exact HK h (by omega) (by omega)
  · have e1 : tj_val p q 1 v = tj_vv p q v := by rw [h]; rfl
    refine tj_cvS (i := 0) (m := 4) hs hp hq (by omega) hd hn0 hv hy T0 (fun _ => ?_) (fun z => absurd z (by rw [g0]; decide)) (fun z => absurd z (by rw [g0]; decide))
    refine tj_cvS (i := 1) (m := 3) hs hp hq (by omega) hd hn1 hv hy T1 (fun z => absurd z (by rw [g1]; decide)) (fun _ z1 z2 => tj_cvE ?_) (fun _ z => HF (fun c => z ⟨c.1.2.1 g1, by rw [e1]; exact c.2⟩))
    rw [e1] at z2 ⊢
    exact HJ ⟨fun z => absurd z (by rw [g0]; decide), fun _ => z1, fun z => absurd z (by omega)⟩ z2
theorem tj_cv {post : Int32 → Prop} {p q s n0 n1 d v x : Nat} (hs : s < 8) (hp : p < 25) (hq : q < 25) (hd : d < 3) (hn0 : n0 ≤ 1) (hn1 : n1 ≤ 1) (hv : v = tj_ord s d) (hx : x < 10) (T0 : tj_Ti p q s n0 0 d a19 a20 a21 a22 a23 a24) (T1 : tj_Ti p q s n1 1 d a19 a20 a21 a22 a23 a24)
    (H1 : tj_C p q n0 n1 v → x ≤ tj_vv p q v → post (nI (tj_vv p q v))) (H2 : ¬ (tj_C p q n0 n1 v ∧ x ≤ tj_vv p q v) → post (-1)) :
    wpX_commonValue post (fl, fq, 3, fs, fo, fa, fb, ft, fn, fk, a1, a2, a3, a4, a5, a6, a7, a8, a9, a10, a11, a12, a13, a14, a15, a16, a17, a18, a19, a20, a21, a22, a23, a24, a25) (nI v) (nI x) := by
  have h5 := tj_vv5 (v := v) hp hq
  refine Exists.intro 3 (br_t rfl (tj_cvR hs hp hq hd hn0 hn1 hv hx T0 T1 (fun c z => ?_) (fun h1 z1 z2 => ?_) H2))
  · by_cases e : tj_vv p q v ≤ x
    · rw [if_pos e]
      exact br_f (by decide) (H1 c z)
    · rw [if_neg e]
      refine br_t rfl (tj_cvR hs hp hq hd hn0 hn1 hv (by omega) T0 T1 (fun _ _ => ?_) (fun h1 z1 z2 => absurd (c.2.2 h1) (by omega)) (fun h => absurd ⟨c, Nat.le_refl _⟩ h))
      rw [if_pos (Nat.le_refl _)]
      exact br_f (by decide) (H1 c z)
  · have hF : ¬ tj_C p q n0 n1 v := fun c => absurd (c.2.2 h1) (by omega)
    exact br_t rfl (tj_cvR hs hp hq hd hn0 hn1 hv (by omega) T0 T1 (fun c _ => absurd c hF) (fun _ z3 _ => absurd z3 (by omega)) (fun _ => H2 (fun c => hF c.1)))
end
end
section
section
variable {fl fq fi fs fo fa fb ft fn fk : Int32} {a1 a10 a11 a12 : Nat → Int64} {a2 a3 a4 a5 a6 a7 a8 a9 a13 a14 a15 a16 a17 a18 a19 a20 a21 a22 a23 a24 a25 : Nat → Int32}
theorem tj_TiS {p q s n i d : Nat} {a19 a20 a21 a22 a23 a24 : Nat → Int32} (hs : s < 8) (hi : i < 2) (hd : d < 3) (hh : tj_has i (tj_ord s d) = false) : tj_Ti p q s n i d a19 a20 a21 a22 a23 a24 ↔ tj_Ti p q s n i (d + 1) a19 a20 a21 a22 a23 a24 := by
  have f := tj_f2 s hs i hi d hd hh
  unfold tj_Ti
  rw [f.2.1]
theorem tj_gdS {post : Int32 → St2 → Prop} {p q s n i d v x m : Nat} {g : Int32} (hs : s < 8) (hp : p < 25) (hq : q < 25) (hi : i < 2) (hd : d < 3) (hn : n ≤ 1) (hv : v = tj_ord s d) (hx : tj_has i v = true → n = 1 ∧ tj_val p q i v = x) (hx5 : x < 5) (T : tj_Ti p q s n i d a19 a20 a21 a22 a23 a24)
    (H : ∀ (g' : Int32) (b22 b23 b24 : Nat → Int32), tj_Ti p q s n i (d + 1) a19 a20 a21 b22 b23 b24 → tj_fr 4 i a22 b22 → tj_fr 4 i a23 b23 → tj_fr 1 i a24 b24 → wX_goDown_5 post (nI v) (nI x) fl fq 3 fs fo fa fb ft fn fk m g' (nI (i + 1)) a1 a2 a3 a4 a5 a6 a7 a8 a9 a10 a11 a12 a13 a14 a15 a16 a17 a18 a19 a20 a21 b22 b23 b24 a25) :
    wX_goDown_5 post (nI v) (nI x) fl fq 3 fs fo fa fb ft fn fk (m + 1) g (nI i) a1 a2 a3 a4 a5 a6 a7 a8 a9 a10 a11 a12 a13 a14 a15 a16 a17 a18 a19 a20 a21 a22 a23 a24 a25 := by
  have c1 : (nI i).toNatClampNeg = i := nI_clamp (by omega)
  refine pk_le 4 i (fun z => absurd z (by omega)) (fun _ => tj_wait hs hi hd hv T (fun hh => br_f (by decide) ?_) (fun hh => br_t rfl (nm_r (nI_1 i) (H g a22 a23 a24 ((tj_TiS hs hi hd (by rw [← hv]; exact hh)).mp T) tj_frR tj_frR tj_frR))))
  obtain ⟨hn1, hxv⟩ := hx hh
  subst hn1
  have f := tj_f1 s hs i hi d hd (by rw [← hv]; exact hh)
  have hw : tj_val p q i (tj_tv s i (tj_ct s i d)) = x := by rw [f.2.1, ← hv, hxv]
  refine tj_seek (x := x) hs hi hd (by omega) T f.1 hw hx5 (by omega) ?_
  rw [if_neg (by omega), nI_1 x]
  refine tj_seek (x := x + 1) hs hi hd (by omega) T f.1 hw hx5 (by omega) ?_
  rw [if_pos (by omega)]
  obtain ⟨t1, t2, t3, t4, t5⟩ := T
  have e24 : upd a24 (nI i).toNatClampNeg (((a24 (nI i).toNatClampNeg) + 1).toInt8.toInt32) = upd a24 i (nI (tj_ct s i d + 1)) := by
    rw [c1, t4, nI_1, tj_byte _ (by omega)]
  have e4 : (4 : Int32) * nI i + upd a24 i (nI (tj_ct s i d + 1)) (nI i).toNatClampNeg = nI (4 * i + (tj_ct s i d + 1)) := by
    rw [c1, pk_us]
    exact tj_j4 i hi _ (by omega)
  refine And.intro (pk_in i 4 (by omega)) (And.intro (pk_in i 4 (by omega)) (nm_r e24 (And.intro (pk_in i 4 (by omega)) (And.intro (pk_in _ 16 (by omega) e4) (nm_r (e' := upd a22 (4 * i + (tj_ct s i d + 1)) 0) ?_ (And.intro (pk_in i 4 (by omega)) (And.intro (pk_in _ 16 (by omega) e4) (nm_r (e' := upd a23 (4 * i + (tj_ct s i d + 1)) (nI 1)) ?_ (nm_e (nm_r (nI_1 i) (H _ _ _ _ ?_ (tj_frU tj_frR (by omega)) (tj_frU tj_frR (by omega)) (tj_frU tj_frR (by omega)))))))))))))
  · rw [e4, nI_clamp (by omega)]
    rfl
  · rw [e4, nI_clamp (by omega)]
    rfl
  · refine ⟨t1, t2, t3, ?_, fun j hj => ?_⟩
    · rw [f.2.2]
      exact pk_us
    · rw [f.2.2] at hj
      by_cases e : j = tj_ct s i d + 1
      · rw [e, pk_us, pk_us]
        exact ⟨rfl, rfl⟩
      · rw [pk_un (by omega), pk_un (by omega)]
        exact t5 j (by omega)
theorem tj_gd {post : Int32 → St2 → Prop} {p q s n0 n1 d v x : Nat} (hs : s < 8) (hp : p < 25) (hq : q < 25) (hd : d < 3) (hn0 : n0 ≤ 1) (hn1 : n1 ≤ 1) (hv : v = tj_ord s d) (hc : tj_C p q n0 n1 v) (hx : x = tj_vv p q v) (T0 : tj_Ti p q s n0 0 d a19 a20 a21 a22 a23 a24) (T1 : tj_Ti p q s n1 1 d a19 a20 a21 a22 a23 a24)
    (H : ∀ (g : Int32) (b22 b23 b24 : Nat → Int32), tj_Ti p q s n0 0 (d + 1) a19 a20 a21 b22 b23 b24 → tj_Ti p q s n1 1 (d + 1) a19 a20 a21 b22 b23 b24 → post g (fl, fq, 3, fs, fo, fa, fb, ft, fn, fk, a1, a2, a3, a4, a5, a6, a7, a8, a9, a10, a11, a12, a13, a14, a15, a16, a17, a18, a19, a20, a21, b22, b23, b24, a25)) :
    wpX_goDown post (fl, fq, 3, fs, fo, fa, fb, ft, fn, fk, a1, a2, a3, a4, a5, a6, a7, a8, a9, a10, a11, a12, a13, a14, a15, a16, a17, a18, a19, a20, a21, a22, a23, a24, a25) (nI v) (nI x) := by
  have h5 := tj_vv5 (v := v) hp hq
  have ho := tj_f5 s hs d hd
  rw [← hv] at ho
  have x0 : tj_has 0 v = true → n0 = 1 ∧ tj_val p q 0 v = x := by
    intro h
    refine ⟨hc.1 h, ?_⟩
    rcases tj_has3 v ho with ⟨h1, g0, g1⟩ | ⟨h1, g0, g1⟩ | ⟨h1, g0, g1⟩
    · rw [hx, h1]; rfl
    · rw [hx, h1]; rfl
    · rw [g0] at h; exact absurd h (by decide)
  have x1 : tj_has 1 v = true → n1 = 1 ∧ tj_val p q 1 v = x := by
    intro h
    refine ⟨hc.2.1 h, ?_⟩
    rcases tj_has3 v ho with ⟨h1, g0, g1⟩ | ⟨h1, g0, g1⟩ | ⟨h1, g0, g1⟩
    · rw [g1] at h; exact absurd h (by decide)
    · have := hc.2.2 h1
      rw [hx, h1]
      exact this.symm
    · rw [hx, h1]; rfl
  refine Exists.intro 5 ?_
  refine tj_gdS (i := 0) (m := 4) hs hp hq (by omega) hd hn0 hv x0 (by omega) T0 (fun g b22 b23 b24 U0 f22 f23 f24 => ?_)
  have U1 : tj_Ti p q s n1 1 d a19 a20 a21 b22 b23 b24 := tj_Tfr (i' := 0) hs (by omega) (by omega) (by omega) T1 tj_frR tj_frR tj_frR f22 f23 f24
  refine tj_gdS (i := 1) (m := 3) hs hp hq (by omega) hd hn1 hv x1 (by omega) U1 (fun g' c22 c23 c24 V1 h22 h23 h24 => ?_)
  have V0 : tj_Ti p q s n0 0 (d + 1) a19 a20 a21 c22 c23 c24 := tj_Tfr (i' := 1) hs (by omega) (by omega) (by omega) U0 tj_frR tj_frR tj_frR h22 h23 h24
  refine br_f (by decide) (br_t (by decide) (br_t rfl (nm_r (e' := 3) (by decide) ?_)))
  refine br_f (by decide) (br_t (by decide) (br_t rfl (nm_r (e' := 4) (by decide) ?_)))
  exact br_t (by decide) (H _ _ _ _ V0 V1)
theorem tj_guS {post : St2 → Prop} {p q s n i d v m : Nat} (hs : s < 8) (hi : i < 2) (hd : d < 3) (hv : v = tj_ord s d) (T : tj_Ti p q s n i (d + 1) a19 a20 a21 a22 a23 a24)
    (H : ∀ b24 : Nat → Int32, tj_Ti p q s n i d a19 a20 a21 a22 a23 b24 → tj_fr 1 i a24 b24 → wX_goUp_2 post (nI v) fl fq 3 fs fo fa fb ft fn fk m (nI (i + 1)) a1 a2 a3 a4 a5 a6 a7 a8 a9 a10 a11 a12 a13 a14 a15 a16 a17 a18 a19 a20 a21 a22 a23 b24 a25) :
    wX_goUp_2 post (nI v) fl fq 3 fs fo fa fb ft fn fk (m + 1) (nI i) a1 a2 a3 a4 a5 a6 a7 a8 a9 a10 a11 a12 a13 a14 a15 a16 a17 a18 a19 a20 a21 a22 a23 a24 a25 := by
  have c1 : (nI i).toNatClampNeg = i := nI_clamp (by omega)
  have ho := tj_f5 s hs d hd
  refine pk_le 4 i (fun z => absurd z (by omega)) (fun _ => br_f (tj_b3 i hi) ⟨pk_in i 4 (by omega), ?_⟩)
  cases hh : tj_has i v with
  | false =>
    have hh' : tj_has i (tj_ord s d) = false := by rw [← hv]; exact hh
    have f := tj_f2 s hs i hi d hd hh'
    have T' := (tj_TiS hs hi hd hh').mpr T
    have h := H a24 T' tj_frR
    obtain ⟨t1, t2, t3, t4, t5⟩ := T'
    have hc := tj_f3 s hs i hi d (by omega)
    have e24 : a24 (nI i).toNatClampNeg = nI (tj_ct s i d) := by rw [c1, t4]
    refine pk_eq (tj_ct s i d) 0 (fun z => nm_r (nI_1 i) h) (fun z => ?_) e24
    have e3 : ((3 : Int32) * nI i + a24 (nI i).toNatClampNeg) - 1 = nI (3 * i + (tj_ct s i d - 1)) := by
      rw [e24, tj_j2 i hi _ (by omega), show 3 * i + tj_ct s i d = 3 * i + (tj_ct s i d - 1) + 1 by omega, nI_pred]
    have e20 : a20 (((3 : Int32) * nI i + a24 (nI i).toNatClampNeg) - 1).toNatClampNeg = nI (tj_tv s i (tj_ct s i d - 1)) := by
      rw [e3, nI_clamp (by omega), t2 _ (by omega)]
    refine And.intro (pk_in i 4 (by omega)) (And.intro (pk_in _ 12 (by omega) e3) (br_f (fun g => f.2.2 z ?_) (nm_r (nI_1 i) h)))
    have g' : nI (tj_tv s i (tj_ct s i d - 1)) = nI v := e20.symm.trans g
    rw [← hv]
    refine (nI_eq ?_ (by omega)).mp g'
    have h7 : i ≤ tj_tv s i (tj_ct s i d - 1) ∧ tj_tv s i (tj_ct s i d - 1) ≤ i + 1 := of_decide_eq_true (tj_f7 s hs i hi _ (by omega))
    omega
  | true =>
    have f := tj_f1 s hs i hi d hd (by rw [← hv]; exact hh)
    obtain ⟨t1, t2, t3, t4, t5⟩ := T
    rw [f.2.2] at t4 t5
    have e24 : a24 (nI i).toNatClampNeg = nI (tj_ct s i d + 1) := by rw [c1, t4]
    have e3 : ((3 : Int32) * nI i + a24 (nI i).toNatClampNeg) - 1 = nI (3 * i + tj_ct s i d) := by
      rw [e24, tj_j2 i hi _ (by omega), show 3 * i + (tj_ct s i d + 1) = 3 * i + tj_ct s i d + 1 by omega, nI_pred]
    have e20 : a20 (((3 : Int32) * nI i + a24 (nI i).toNatClampNeg) - 1).toNatClampNeg = nI v := by
      rw [e3, nI_clamp (by omega), t2 _ f.1, f.2.1, hv]
    refine pk_eq (tj_ct s i d + 1) 0 (fun z => absurd z (by omega)) (fun z => ?_) e24
    refine And.intro (pk_in i 4 (by omega)) (And.intro (pk_in _ 12 (by omega) e3) (br_t e20 (And.intro (pk_in i 4 (by omega)) (And.intro (pk_in i 4 (by omega)) (nm_r (e' := upd a24 i (nI (tj_ct s i d))) ?_ (nm_r (nI_1 i) (H _ ⟨t1, t2, t3, pk_us, fun j hj => t5 j (by omega)⟩ (tj_frU tj_frR (by omega)))))))))
    rw [e24, nI_pred, c1, tj_byte _ (by omega)]
theorem tj_gu {post : St2 → Prop} {p q s n0 n1 d : Nat} {y : Int32} (hs : s < 8) (hd : d < 3) (hy : y = nI (tj_ord s d)) (T0 : tj_Ti p q s n0 0 (d + 1) a19 a20 a21 a22 a23 a24) (T1 : tj_Ti p q s n1 1 (d + 1) a19 a20 a21 a22 a23 a24)
    (H : ∀ b24 : Nat → Int32, tj_Ti p q s n0 0 d a19 a20 a21 a22 a23 b24 → tj_Ti p q s n1 1 d a19 a20 a21 a22 a23 b24 → post (fl, fq, 3, fs, fo, fa, fb, ft, fn, fk, a1, a2, a3, a4, a5, a6, a7, a8, a9, a10, a11, a12, a13, a14, a15, a16, a17, a18, a19, a20, a21, a22, a23, b24, a25)) :
    wpX_goUp post (fl, fq, 3, fs, fo, fa, fb, ft, fn, fk, a1, a2, a3, a4, a5, a6, a7, a8, a9, a10, a11, a12, a13, a14, a15, a16, a17, a18, a19, a20, a21, a22, a23, a24, a25) y := by
  subst hy
  refine Exists.intro 5 ?_
  refine tj_guS (i := 0) (m := 4) hs (by omega) hd rfl T0 (fun b24 U0 f24 => ?_)
  have U1 : tj_Ti p q s n1 1 (d + 1) a19 a20 a21 a22 a23 b24 := tj_Tfr (i' := 0) hs (by omega) (by omega) (by omega) T1 tj_frR tj_frR tj_frR tj_frR tj_frR f24
  refine tj_guS (i := 1) (m := 3) hs (by omega) hd rfl U1 (fun c24 V1 h24 => ?_)
  have V0 : tj_Ti p q s n0 0 d a19 a20 a21 a22 a23 c24 := tj_Tfr (i' := 1) hs (by omega) (by omega) (by omega) U0 tj_frR tj_frR tj_frR tj_frR tj_frR h24
  refine br_f (by decide) (br_t (by decide) (nm_r (e' := 3) (by decide) ?_))
  refine br_f (by decide) (br_t (by decide) (nm_r (e' := 4) (by decide) ?_))
  exact br_t (by decide) (H _ V0 V1)
theorem tj_ofS {post : St2 → Prop} {s v c t m : Nat} (hs : s < 8) (h6 : a6 1 = nI s) (hv : v < 3) (h15 : a15 v = nI t)
    (H : wX_offerAnswer_4 post fl 1 fi fs fo fa fb ft fn fk a1 a2 a3 a4 a5 a6 a7 a8 a9 a10 a11 a12 a13 a14 a15 a16 a17 a18 a19 a20 a21 a22 a23 a24 a25 m (nI (if s / 2 ^ v % 2 = 1 then 5 * c + t else c)) (nI (v + 1))) :
    wX_offerAnswer_4 post fl 1 fi fs fo fa fb ft fn fk a1 a2 a3 a4 a5 a6 a7 a8 a9 a10 a11 a12 a13 a14 a15 a16 a17 a18 a19 a20 a21 a22 a23 a24 a25 (m + 1) (nI c) (nI v) := by
  have cv : (nI v).toNatClampNeg = v := nI_clamp (by omega)
  have e6 : ((a6 (1 : Int32).toNatClampNeg >>> (nI v &&& 31)) &&& 1) = 0 ↔ s / 2 ^ v % 2 = 0 := by
    rw [show (1 : Int32).toNatClampNeg = 1 from rfl, h6]
    exact tj_bit s hs v (by omega)
  refine pk_le 5 v (fun z => absurd z (by omega)) (fun _ => ⟨pk_in 1 2 (by omega), ek_if e6 (fun z => nm_r (nI_1 v) ?_) (fun z => ⟨pk_in v 5 (by omega), nm_r (e' := nI (5 * c + t)) ?_ (nm_r (nI_1 v) ?_)⟩)⟩)
  · rw [if_neg (by omega)] at H
    exact H
  · rw [cv, h15, show (5 : Int32) = nI 5 from rfl, pk_mul, nI_add]
  · rw [if_pos (by omega)] at H
    exact H
theorem tj_offer {post : St2 → Prop} {p q s : Nat} (hs : s < 8) (hp : p < 25) (hq : q < 25) (h6 : a6 1 = nI s) (h15 : ∀ v, v < 3 → a15 v = nI (tj_vv p q v)) (hz : ∀ j, j < 49 → a10 j = 0)
    (H : ∀ b10 : Nat → Int64, tj_A 1 (tj_ans p q s) b10 → post (fl, 1, fi, fs, fo, 1, fb, ft, fn, fk, a1, a2, a3, a4, a5, a6, a7, a8, a9, b10, a11, a12, a13, a14, a15, a16, a17, a18, a19, a20, a21, a22, a23, a24, a25)) : wpX_offerAnswer post (fl, 1, fi, fs, fo, fa, fb, ft, fn, fk, a1, a2, a3, a4, a5, a6, a7, a8, a9, a10, a11, a12, a13, a14, a15, a16, a17, a18, a19, a20, a21, a22, a23, a24, a25) := by
  have ha := tj_ans125 (s := s) hp hq
  refine Exists.intro 6 ?_
  refine tj_ofS (v := 0) (c := 0) (m := 5) hs h6 (by omega) (h15 0 (by omega)) ?_
  refine tj_ofS (v := 1) (m := 4) hs h6 (by omega) (h15 1 (by omega)) ?_
  refine tj_ofS (v := 2) (m := 3) hs h6 (by omega) (h15 2 (by omega)) ?_
  have e : (if s / 2 ^ 2 % 2 = 1 then 5 * (if s / 2 ^ 1 % 2 = 1 then 5 * (if s / 2 ^ 0 % 2 = 1 then 5 * 0 + tj_vv p q 0 else 0) + tj_vv p q 1 else (if s / 2 ^ 0 % 2 = 1 then 5 * 0 + tj_vv p q 0 else 0)) + tj_vv p q 2 else (if s / 2 ^ 1 % 2 = 1 then 5 * (if s / 2 ^ 0 % 2 = 1 then 5 * 0 + tj_vv p q 0 else 0) + tj_vv p q 1 else (if s / 2 ^ 0 % 2 = 1 then 5 * 0 + tj_vv p q 0 else 0))) = tj_ans p q s := by
    unfold tj_ans tj_r1 tj_r0
    simp [tj_vv]
  rw [e]
  have k3 : ((a6 1 >>> ((3 : Int32) &&& 31)) &&& 1) = 0 := by
    rw [h6]
    exact (tj_bit s hs 3 (by omega)).mpr (by omega)
  have k4 : ((a6 1 >>> ((4 : Int32) &&& 31)) &&& 1) = 0 := by
    rw [h6]
    exact (tj_bit s hs 4 (by omega)).mpr (by omega)
  refine br_f (by decide) ⟨pk_in 1 2 (by omega), br_t k3 (nm_r (e' := 4) (by decide) ?_)⟩
  refine br_f (by decide) ⟨pk_in 1 2 (by omega), br_t k4 (nm_r (e' := 5) (by decide) ?_)⟩
  exact br_t (by decide) (tj_putIn (by omega) hz (fun b10 hb => H b10 hb))
theorem tj_take {post : St2 → Prop} {p q s : Nat} (hs : s < 8) (hp : p < 25) (hq : q < 25) (h6 : a6 1 = nI s) (h18 : ∀ j, j < 3 → a18 j = nI (tj_ord s j)) (h25 : ∀ j, j < 3 → a25 j = nI (tj_vv p q (tj_ord s j))) (hz : ∀ j, j < 49 → a10 j = 0)
    (H : ∀ (b10 : Nat → Int64) (b15 : Nat → Int32), tj_A 1 (tj_ans p q s) b10 → post (fl, 1, fi, fs, fo, 1, fb, ft, 3, fk, a1, a2, a3, a4, a5, a6, a7, a8, a9, b10, a11, a12, a13, a14, b15, a16, a17, a18, a19, a20, a21, a22, a23, a24, a25)) : wpX_takeAnswer post (fl, 1, fi, fs, fo, fa, fb, ft, 3, fk, a1, a2, a3, a4, a5, a6, a7, a8, a9, a10, a11, a12, a13, a14, a15, a16, a17, a18, a19, a20, a21, a22, a23, a24, a25) := by
  refine pk_loop (fun m j b => wX_takeAnswer_2 post fl 1 fi fs fo fa fb ft 3 fk m (nI j) a1 a2 a3 a4 a5 a6 a7 a8 a9 a10 a11 a12 a13 a14 b a16 a17 a18 a19 a20 a21 a22 a23 a24 a25) (fun j b => ∀ t, t < j → b (tj_ord s t) = nI (tj_vv p q (tj_ord s t))) 3 0 a15 (by omega) (fun t ht => absurd ht (Nat.not_lt_zero t)) ?_ ?_
  · intro m b hI
    refine pk_le 3 3 (fun _ => tj_offer hs hp hq h6 (fun v hv => ?_) hz (fun b10 hb => H b10 b hb)) (fun z => absurd z (by omega))
    obtain ⟨d, hd, e⟩ := tj_f6 s hs v hv
    rw [← e]
    exact hI d hd
  · intro m j b hj hI hW
    have cj : (nI j).toNatClampNeg = j := nI_clamp (by omega)
    have ho := tj_f5 s hs j hj
    have e18 : a18 (nI j).toNatClampNeg = nI (tj_ord s j) := by rw [cj, h18 j hj]
    have e25 : vp_nar .byte (a25 (nI j).toNatClampNeg) = nI (tj_vv p q (tj_ord s j)) := by
      rw [cj]
      exact tj_nar (h25 j hj) (by have := tj_vv5 (v := tj_ord s j) hp hq; omega)
    refine pk_le 3 j (fun z => absurd z (by omega)) (fun _ => ⟨pk_in j 5 (by omega), pk_in j 6 (by omega), pk_in _ 5 (by omega) e18, nm_r (e' := upd b (tj_ord s j) (nI (tj_vv p q (tj_ord s j)))) (by rw [e18, e25, nI_clamp (by omega)]) (nm_r (nI_1 j) (hW _ ?_))⟩)
    intro t ht
    by_cases e : tj_ord s t = tj_ord s j
    · rw [e, pk_us]
    · rw [pk_un e]
      refine hI t ?_
      have : t ≠ j := fun z => e (by rw [z])
      omega
end
end
section
section
variable {fl fq fi fs fo fa fb ft fn fk : Int32} {a1 a10 a11 a12 : Nat → Int64} {a2 a3 a4 a5 a6 a7 a8 a9 a13 a14 a15 a16 a17 a18 a19 a20 a21 a22 a23 a24 a25 : Nat → Int32}
/-- going back: no value is left -/
theorem tj_lfB {post : St2 → Prop} {p q s n0 n1 : Nat} (hs : s < 8) (hp : p < 25) (hq : q < 25) (hn0 : n0 ≤ 1) (hn1 : n1 ≤ 1) (h18 : ∀ j, j < 3 → a18 j = nI (tj_ord s j)) (H : ∀ c24 : Nat → Int32, post (fl, fq, 3, fs, fo, fa, fb, ft, fn, fk, a1, a2, a3, a4, a5, a6, a7, a8, a9, a10, a11, a12, a13, a14, a15, a16, a17, a18, a19, a20, a21, a22, a23, c24, a25)) :
    ∀ (d m x : Nat) (c24 : Nat → Int32), d < 3 → d < m → tj_vv p q (tj_ord s d) < x → x < 10 → (∀ j, j < d → a25 j = nI (tj_vv p q (tj_ord s j))) → tj_Ti p q s n0 0 d a19 a20 a21 a22 a23 c24 → tj_Ti p q s n1 1 d a19 a20 a21 a22 a23 c24 → wX_leapfrog_37 post m (nI d) (nI x) fl fq 3 fs fo fa fb ft fn fk a1 a2 a3 a4 a5 a6 a7 a8 a9 a10 a11 a12 a13 a14 a15 a16 a17 a18 a19 a20 a21 a22 a23 c24 a25 := by
  intro d
  induction d with
  | zero =>
    intro m x c24 hd hm hx hx10 h25 T0 T1
    obtain ⟨m', rfl⟩ : ∃ m', m = m' + 1 := ⟨m - 1, by omega⟩
    exact br_f (by decide) (And.intro (pk_in 0 5 (by omega)) (nm_r (e' := nI (tj_ord s 0)) (h18 0 (by omega)) (tj_cv hs hp hq hd hn0 hn1 rfl hx10 T0 T1 (fun _ z => absurd z (by omega)) (fun _ => br_f (by decide) (nm_r (e' := -1) (by decide) (br_f (by decide) (H c24)))))))
  | succ d ih =>
    intro m x c24 hd hm hx hx10 h25 T0 T1
    obtain ⟨m', rfl⟩ : ∃ m', m = m' + 1 := ⟨m - 1, by omega⟩
    have cd : (nI d).toNatClampNeg = d := nI_clamp (by omega)
    have hv5 := tj_vv5 (v := tj_ord s d) hp hq
    refine br_f (nI_pos (by omega)) (And.intro (pk_in (d + 1) 5 (by omega)) (nm_r (e' := nI (tj_ord s (d + 1))) (by rw [nI_clamp (by omega)]; exact h18 _ hd) (tj_cv hs hp hq hd hn0 hn1 rfl hx10 T0 T1 (fun _ z => absurd z (by omega)) (fun _ => br_f (by decide) (nm_r (pk_m1 d) (br_t (nI_pos' (by omega)) (And.intro (pk_in d 5 (by omega)) ?_)))))))
    refine tj_gu (d := d) hs (by omega) (by rw [cd]; exact h18 d (by omega)) T0 T1 (fun b24 U0 U1 => ?_)
    refine And.intro (pk_in d 6 (by omega)) (nm_r (e' := nI (tj_vv p q (tj_ord s d) + 1)) (by rw [cd, h25 d (by omega), nI_1]) ?_)
    exact ih m' _ b24 (by omega) (by omega) (by omega) (by omega) (fun j hj => h25 j (by omega)) U0 U1
theorem tj_lf143 {post : St2 → Prop} {J37 : Int32 → Int32 → Int32 → Int32 → Int32 → Int32 → Int32 → Int32 → Int32 → Int32 → Int32 → Int32 → (Nat → Int64) → (Nat → Int32) → (Nat → Int32) → (Nat → Int32) → (Nat → Int32) → (Nat → Int32) → (Nat → Int32) → (Nat → Int32) → (Nat → Int32) → (Nat → Int64) → (Nat → Int64) → (Nat → Int64) → (Nat → Int32) → (Nat → Int32) → (Nat → Int32) → (Nat → Int32) → (Nat → Int32) → (Nat → Int32) → (Nat → Int32) → (Nat → Int32) → (Nat → Int32) → (Nat → Int32) → (Nat → Int32) → (Nat → Int32) → (Nat → Int32) → Prop} {p q s n0 n1 e : Nat} {y : Int32} (hs : s < 8) (he : 1 ≤ e) (h18 : ∀ j, j < 3 → a18 j = nI (tj_ord s j)) (h25 : a25 (e - 1) + 1 = y)
    (HJ : ∀ c24 : Nat → Int32, tj_Ti p q s n0 0 (e - 1) a19 a20 a21 a22 a23 c24 → tj_Ti p q s n1 1 (e - 1) a19 a20 a21 a22 a23 c24 → J37 (nI (e - 1)) y fl fq 3 fs fo fa fb ft fn (nI e) a1 a2 a3 a4 a5 a6 a7 a8 a9 a10 a11 a12 a13 a14 a15 a16 a17 a18 a19 a20 a21 a22 a23 c24 a25) :
    ∀ (t : Nat) (c24 : Nat → Int32), e - 1 + t ≤ 3 → tj_Ti p q s n0 0 (e - 1 + t) a19 a20 a21 a22 a23 c24 → tj_Ti p q s n1 1 (e - 1 + t) a19 a20 a21 a22 a23 c24 → wX_leapfrog_143 post J37 (t + 1) (nI (e - 1 + t)) fl fq 3 fs fo fa fb ft fn (nI e) a1 a2 a3 a4 a5 a6 a7 a8 a9 a10 a11 a12 a13 a14 a15 a16 a17 a18 a19 a20 a21 a22 a23 c24 a25 := by
  intro t
  induction t with
  | zero =>
    intro c24 ht T0 T1
    refine pk_le (e - 1) (e - 1) (fun _ => And.intro (pk_in (e - 1) 6 (by omega)) (nm_r (e' := y) ?_ (HJ c24 T0 T1))) (fun z => absurd z (by omega)) rfl (pk_sub he)
    show a25 (nI (e - 1)).toNatClampNeg + 1 = y
    rw [nI_clamp (by omega)]
    exact h25
  | succ t ih =>
    intro c24 ht T0 T1
    refine pk_le (e - 1 + (t + 1)) (e - 1) (fun z => absurd z (by omega)) (fun _ => nm_r (e' := nI (e - 1 + t)) (pk_m1 (e - 1 + t)) (And.intro (pk_in (e - 1 + t) 5 (by omega)) ?_)) rfl (pk_sub he)
    refine tj_gu (d := e - 1 + t) hs (by omega) (by rw [nI_clamp (by omega)]; exact h18 _ (by omega)) T0 T1 (fun b24 U0 U1 => ?_)
    exact ih b24 (by omega) U0 U1
def tj_fd (p q n0 n1 : Nat) : Nat := if n0 = 1 ∧ n1 = 1 ∧ p % 5 = q / 5 then 1 else 0
theorem tj_fd0 {p q n0 n1 v : Nat} (h : ¬ tj_C p q n0 n1 v) : tj_fd p q n0 n1 = 0 :=
  if_neg (fun g => h ⟨fun _ => g.1, fun _ => g.2.1, fun _ => g.2.2⟩)
theorem tj_fd1 {p q s n0 n1 : Nat} (hs : s < 8) (h : ∀ j, j < 3 → tj_C p q n0 n1 (tj_ord s j)) : tj_fd p q n0 n1 = 1 := by
  have h' : ∀ v, v < 3 → tj_C p q n0 n1 v := by
    intro v hv
    obtain ⟨d, hd, e⟩ := tj_f6 s hs v hv
    rw [← e]
    exact h d hd
  exact if_pos ⟨(h' 0 (by omega)).1 (by decide), (h' 2 (by omega)).2.1 (by decide), (h' 1 (by omega)).2.2 rfl⟩
theorem tj_lfF {post : St2 → Prop} {p q s n0 n1 d m : Nat} (hs : s < 8) (hp : p < 25) (hq : q < 25) (hn0 : n0 ≤ 1) (hn1 : n1 ≤ 1) (hd : d < 3) (hm : 3 ≤ m) (h6 : a6 1 = nI s) (h18 : ∀ j, j < 3 → a18 j = nI (tj_ord s j)) (hz : ∀ j, j < 49 → a10 j = 0)
    (h25 : ∀ j, j < d → a25 j = nI (tj_vv p q (tj_ord s j))) (hC : ∀ j, j < d → tj_C p q n0 n1 (tj_ord s j)) (T0 : tj_Ti p q s n0 0 d a19 a20 a21 a22 a23 a24) (T1 : tj_Ti p q s n1 1 d a19 a20 a21 a22 a23 a24)
    (HP : ∀ (ga : Int32) (b10 : Nat → Int64) (b15 b22 b23 b24 b25 : Nat → Int32), ga = nI (tj_fd p q n0 n1) → tj_A (tj_fd p q n0 n1) (tj_ans p q s) b10 → post (fl, 1, 3, fs, fo, ga, fb, ft, 3, (nI (tj_ac s)), a1, a2, a3, a4, a5, a6, a7, a8, a9, b10, a11, a12, a13, a14, b15, a16, a17, a18, a19, a20, a21, b22, b23, b24, b25))
    (HN : d < 2 → ∀ b22 b23 b24 b25 : Nat → Int32, (∀ j, j < d + 1 → b25 j = nI (tj_vv p q (tj_ord s j))) → (∀ j, j < d + 1 → tj_C p q n0 n1 (tj_ord s j)) → tj_Ti p q s n0 0 (d + 1) a19 a20 a21 b22 b23 b24 → tj_Ti p q s n1 1 (d + 1) a19 a20 a21 b22 b23 b24 → wX_leapfrog_37 post m (nI (d + 1)) 0 fl 1 3 fs fo 0 fb ft 3 (nI (tj_ac s)) a1 a2 a3 a4 a5 a6 a7 a8 a9 a10 a11 a12 a13 a14 a15 a16 a17 a18 a19 a20 a21 b22 b23 b24 b25) :
    wX_leapfrog_37 post (m + 1) (nI d) 0 fl 1 3 fs fo 0 fb ft 3 (nI (tj_ac s)) a1 a2 a3 a4 a5 a6 a7 a8 a9 a10 a11 a12 a13 a14 a15 a16 a17 a18 a19 a20 a21 a22 a23 a24 a25 := by
  have cd : (nI d).toNatClampNeg = d := nI_clamp (by omega)
  have hv5 := tj_vv5 (v := tj_ord s d) hp hq
  refine br_f (nI_pos (by omega)) (And.intro (pk_in d 5 (by omega)) (nm_r (e' := nI (tj_ord s d)) (by rw [cd]; exact h18 d hd) (tj_cv (x := 0) hs hp hq hd hn0 hn1 rfl (by omega) T0 T1 (fun hc _ => br_t (nI_pos' (by omega)) ?_) (fun hc => br_f (by decide) ?_))))
  · refine tj_gd hs hp hq hd hn0 hn1 rfl hc rfl T0 T1 (fun g b22 b23 b24 U0 U1 => ?_)
    refine And.intro (pk_in d 6 (by omega)) (nm_r (e' := upd a25 d (nI (tj_vv p q (tj_ord s d)))) (by rw [cd, tj_byte _ (by omega)]) (nm_r (nI_1 d) ?_))
    have h25' : ∀ j, j < d + 1 → upd a25 d (nI (tj_vv p q (tj_ord s d))) j = nI (tj_vv p q (tj_ord s j)) := tj_put (f := fun j => nI (tj_vv p q (tj_ord s j))) h25 rfl
    have hC' : ∀ j, j < d + 1 → tj_C p q n0 n1 (tj_ord s j) := by
      intro j hj
      by_cases e : j = d
      · rw [e]
        exact hc
      · exact hC j (by omega)
    refine pk_le 3 (d + 1) (fun z => ?_) (fun z => HN (by omega) b22 b23 b24 _ h25' hC' U0 U1)
    have hd2 : d = 2 := by omega
    subst hd2
    have hfd := tj_fd1 hs hC'
    refine tj_take hs hp hq h6 h18 h25' hz (fun b10 b15 hA => ?_)
    have hpost : ∀ c24 : Nat → Int32, post (fl, 1, 3, fs, fo, 1, fb, ft, 3, (nI (tj_ac s)), a1, a2, a3, a4, a5, a6, a7, a8, a9, b10, a11, a12, a13, a14, b15, a16, a17, a18, a19, a20, a21, b22, b23, c24, (upd a25 2 (nI (tj_vv p q (tj_ord s 2))))) := fun c24 => HP 1 b10 b15 b22 b23 c24 _ (by rw [hfd]; rfl) (by rw [hfd]; exact hA)
    have h8 := tj_f8 s hs
    refine br_c (fun _ => pk_eq (tj_ac s) 0 (fun _ => hpost b24) (fun hac => ?_)) (fun _ => hpost b24)
    have hj : tj_ac s - 1 + (3 - (tj_ac s - 1)) = 3 := by omega
    have hv5' := tj_vv5 (v := tj_ord s (tj_ac s - 1)) hp hq
    have r := tj_lf143 (post := post) (J37 := wX_leapfrog_37 post m) (p := p) (q := q) (s := s) (n0 := n0) (n1 := n1) (e := tj_ac s) (y := nI (tj_vv p q (tj_ord s (tj_ac s - 1)) + 1)) (a18 := a18) (a19 := a19) (a20 := a20) (a21 := a21) (a22 := b22) (a23 := b23) (a25 := upd a25 2 (nI (tj_vv p q (tj_ord s 2)))) hs (by omega) h18 (by rw [h25' _ (by omega), nI_1])
      (fun c24 V0 V1 => tj_lfB hs hp hq hn0 hn1 h18 hpost (tj_ac s - 1) m _ c24 (by omega) (by omega) (by omega) (by omega) (fun j hj => h25' j (by omega)) V0 V1) (3 - (tj_ac s - 1)) b24 (by omega) (by rw [hj]; exact U0) (by rw [hj]; exact U1)
    rw [hj] at r
    exact Exists.intro _ r
  · have hfd := tj_fd0 (fun c => hc ⟨c, Nat.zero_le _⟩)
    have hpost : ∀ c24 : Nat → Int32, post (fl, 1, 3, fs, fo, 0, fb, ft, 3, (nI (tj_ac s)), a1, a2, a3, a4, a5, a6, a7, a8, a9, a10, a11, a12, a13, a14, a15, a16, a17, a18, a19, a20, a21, a22, a23, c24, a25) := fun c24 => HP 0 a10 a15 a22 a23 c24 a25 (by rw [hfd]; rfl) (by rw [hfd]; exact tj_A0 hz)
    cases d with
    | zero => exact nm_r (e' := -1) (by decide) (br_f (by decide) (hpost a24))
    | succ d =>
      have cd' : (nI d).toNatClampNeg = d := nI_clamp (by omega)
      have hv5' := tj_vv5 (v := tj_ord s d) hp hq
      refine nm_r (pk_m1 d) (br_t (nI_pos' (by omega)) (And.intro (pk_in d 5 (by omega)) ?_))
      refine tj_gu (d := d) hs (by omega) (by rw [cd']; exact h18 d (by omega)) T0 T1 (fun b24 U0 U1 => ?_)
      refine And.intro (pk_in d 6 (by omega)) (nm_r (e' := nI (tj_vv p q (tj_ord s d) + 1)) (by rw [cd', h25 d (by omega), nI_1]) ?_)
      exact tj_lfB hs hp hq hn0 hn1 h18 hpost d m _ b24 (by omega) (by omega) (by omega) (by omega) (fun j hj => h25 j (by omega)) U0 U1
theorem tj_leap {post : St2 → Prop} {p q s n0 n1 : Nat} (k : tj_K s a3 a4 a5 a6) (hs : s < 8) (hp : p < 25) (hq : q < 25) (hn0 : n0 ≤ 1) (hn1 : n1 ≤ 1) (hL : tj_L p q n0 n1 a7 a8 a9) (hz : ∀ j, j < 49 → a10 j = 0)
    (H : ∀ (ga gn gk : Int32) (b10 : Nat → Int64) (b15 b18 b19 b20 b21 b22 b23 b24 b25 : Nat → Int32), ga = nI (tj_fd p q n0 n1) → tj_A (tj_fd p q n0 n1) (tj_ans p q s) b10 → post (fl, 1, 3, fs, fo, ga, fb, ft, gn, gk, a1, a2, a3, a4, a5, a6, a7, a8, a9, b10, a11, a12, a13, a14, b15, a16, a17, b18, b19, b20, b21, b22, b23, b24, b25)) : wpX_leapfrog post (fl, 1, 3, fs, fo, 0, fb, ft, fn, fk, a1, a2, a3, a4, a5, a6, a7, a8, a9, a10, a11, a12, a13, a14, a15, a16, a17, a18, a19, a20, a21, a22, a23, a24, a25) := by
  unfold wpX_leapfrog
  refine tj_ov k hs (fun b18 h18 => ?_)
  refine Exists.intro 5 ?_
  refine br_f (by decide) (br_f (by decide) (tj_build (i := 0) k hs hp hq (by omega) hn0 hn1 h18 hL (fun b15 b19 b20 b21 b22 b23 b24 T0 f19 f20 f21 f22 f23 f24 => nm_r (e' := nI 1) (by decide) ?_)))
  refine br_f (by decide) (br_f (by decide) (tj_build (i := 1) k hs hp hq (by omega) hn0 hn1 h18 hL (fun c15 c19 c20 c21 c22 c23 c24 T1 g19 g20 g21 g22 g23 g24 => nm_r (e' := nI 2) (by decide) ?_)))
  refine br_f (by decide) (br_t (by decide) (nm_r (e' := 3) (by decide) ?_))
  refine br_f (by decide) (br_t (by decide) (nm_r (e' := 4) (by decide) ?_))
  refine br_t (by decide) (Exists.intro 6 ?_)
  have U0 : tj_Ti p q s n0 0 0 c19 c20 c21 c22 c23 c24 := tj_Tfr (i' := 1) hs (by omega) (by omega) (by omega) T0 g19 g20 g21 g22 g23 g24
  have U1 : tj_Ti p q s n1 1 0 c19 c20 c21 c22 c23 c24 := T1
  have h6 := k.2.2.2.2.2.2.2.2.2
  have HP : ∀ (ga : Int32) (b10 : Nat → Int64) (b15 b22 b23 b24 b25 : Nat → Int32), ga = nI (tj_fd p q n0 n1) → tj_A (tj_fd p q n0 n1) (tj_ans p q s) b10 → post (fl, 1, 3, fs, fo, ga, fb, ft, 3, (nI (tj_ac s)), a1, a2, a3, a4, a5, a6, a7, a8, a9, b10, a11, a12, a13, a14, b15, a16, a17, b18, c19, c20, c21, b22, b23, b24, b25) := fun ga b10 b15 b22 b23 b24 b25 h1 h2 => H ga 3 (nI (tj_ac s)) b10 b15 b18 c19 c20 c21 b22 b23 b24 b25 h1 h2
  refine tj_lfF (d := 0) (m := 5) hs hp hq hn0 hn1 (by omega) (by omega) h6 h18 hz (fun j hj => absurd hj (Nat.not_lt_zero j)) (fun j hj => absurd hj (Nat.not_lt_zero j)) U0 U1 HP (fun _ d22 d23 d24 d25 h25 hC V0 V1 => ?_)
  refine tj_lfF (d := 1) (m := 4) hs hp hq hn0 hn1 (by omega) (by omega) h6 h18 hz h25 hC V0 V1 HP (fun _ e22 e23 e24 e25 h25' hC' W0 W1 => ?_)
  exact tj_lfF (d := 2) (m := 3) hs hp hq hn0 hn1 (by omega) (by omega) h6 h18 hz h25' hC' W0 W1 HP (fun z => absurd z (by omega))
end
end
section
section
variable {fl fq fi fs fo fa fb ft fn fk : Int32} {a1 a10 a11 a12 : Nat → Int64} {a2 a3 a4 a5 a6 a7 a8 a9 a13 a14 a15 a16 a17 a18 a19 a20 a21 a22 a23 a24 a25 : Nat → Int32}
theorem tj_empty {post : St2 → Prop} (H : ∀ b10 : Nat → Int64, (∀ j, j < 49 → b10 j = 0) → post (fl, fq, fi, fs, fo, fa, fb, ft, fn, fk, a1, a2, a3, a4, a5, a6, a7, a8, a9, b10, a11, a12, a13, a14, a15, a16, a17, a18, a19, a20, a21, a22, a23, a24, a25)) : wpX_empty post (fl, fq, fi, fs, fo, fa, fb, ft, fn, fk, a1, a2, a3, a4, a5, a6, a7, a8, a9, a10, a11, a12, a13, a14, a15, a16, a17, a18, a19, a20, a21, a22, a23, a24, a25) := by
  refine pk_loop (fun m w b => wX_empty_2 post fl fq fi fs fo fa fb ft fn fk m (nI w) a1 a2 a3 a4 a5 a6 a7 a8 a9 b a11 a12 a13 a14 a15 a16 a17 a18 a19 a20 a21 a22 a23 a24 a25) (fun w b => ∀ j, j < w → b j = 0) 49 0 a10 (by omega) (fun j hj => absurd hj (Nat.not_lt_zero j)) ?_ ?_
  · intro m b hI
    exact pk_le 49 49 (fun _ => H b hI) (fun z => absurd z (by omega))
  · intro m w b hw hI hW
    refine pk_le 49 w (fun z => absurd z (by omega)) (fun _ => ⟨pk_in w 49 (by omega), nm_r (e' := vp_updL b w 0) (by rw [nI_clamp (by omega)]) (nm_r (nI_1 w) (hW _ ?_))⟩)
    intro j hj
    by_cases e : j = w
    · rw [e, pk_uLs]
    · rw [pk_uLn e]
      exact hI j (by omega)
theorem tj_search {post : St2 → Prop} {p q s n0 n1 : Nat} (k : tj_K s a3 a4 a5 a6) (hs : s < 8) (hp : p < 25) (hq : q < 25) (hn0 : n0 ≤ 1) (hn1 : n1 ≤ 1) (hL : tj_L p q n0 n1 a7 a8 a9)
    (H : ∀ (ga gn gk : Int32) (b10 : Nat → Int64) (b15 b18 b19 b20 b21 b22 b23 b24 b25 : Nat → Int32), ga = nI (tj_fd p q n0 n1) → tj_A (tj_fd p q n0 n1) (tj_ans p q s) b10 → post (2, 1, 3, fs, fo, ga, fb, ft, gn, gk, a1, a2, a3, a4, a5, a6, a7, a8, a9, b10, a11, a12, a13, a14, b15, a16, a17, b18, b19, b20, b21, b22, b23, b24, b25)) : wpX_searchByWay post (2, 1, 3, fs, fo, fa, fb, ft, fn, fk, a1, a2, a3, a4, a5, a6, a7, a8, a9, a10, a11, a12, a13, a14, a15, a16, a17, a18, a19, a20, a21, a22, a23, a24, a25) := by
  unfold wpX_searchByWay
  exact tj_empty (fun b10 hz => br_t rfl (tj_leap k hs hp hq hn0 hn1 hL hz (fun ga gn gk b10 b15 b18 b19 b20 b21 b22 b23 b24 b25 h1 h2 => H ga gn gk b10 b15 b18 b19 b20 b21 b22 b23 b24 b25 h1 h2)))
theorem tj_work {post : St2 → Prop} {p q s f n0 n1 : Nat} (k : tj_K s a3 a4 a5 a6) (hs : s < 8) (hp : p < 25) (hq : q < 25) (hf : f ≤ 6) (hn0 : n0 ≤ 1) (hn1 : n1 ≤ 1) (hb0 : a1 f = tj_wd n0 p) (hb1 : a1 (f + 2) = tj_wd n1 q)
    (H : ∀ (ga gn gk : Int32) (b10 : Nat → Int64) (b15 b18 b19 b20 b21 b22 b23 b24 b25 : Nat → Int32) (b7 b8 b9 : Nat → Int32), ga = nI (tj_fd p q n0 n1) → tj_A (tj_fd p q n0 n1) (tj_ans p q s) b10 → post (2, 1, 3, (nI f), 0, ga, fb, ft, gn, gk, a1, a2, a3, a4, a5, a6, b7, b8, b9, b10, a11, a12, a13, a14, b15, a16, a17, b18, b19, b20, b21, b22, b23, b24, b25)) : wpX_workOut post (2, fq, fi, fs, fo, fa, fb, ft, fn, fk, a1, a2, a3, a4, a5, a6, a7, a8, a9, a10, a11, a12, a13, a14, a15, a16, a17, a18, a19, a20, a21, a22, a23, a24, a25) 1 3 (nI f) 0 := by
  unfold wpX_workOut
  exact tj_start k hf hn0 hn1 hp hq hb0 hb1 (fun b7 b8 b9 hL => And.intro tj_nb0 (And.intro (by decide) (tj_search k hs hp hq hn0 hn1 hL (fun ga gn gk b10 b15 b18 b19 b20 b21 b22 b23 b24 b25 h1 h2 => H ga gn gk b10 b15 b18 b19 b20 b21 b22 b23 b24 b25 b7 b8 b9 h1 h2))))
/-- the picture between two calls of the law -/
def tj_P (p q s : Nat) (u : St2) : Prop := match u with
  | (fl, fq, fi, fs, fo, fa, fb, ft, fn, fk, a1, a2, a3, a4, a5, a6, a7, a8, a9, a10, a11, a12, a13, a14, a15, a16, a17, a18, a19, a20, a21, a22, a23, a24, a25) => fl = 2 ∧ tj_K s a3 a4 a5 a6 ∧ a1 0 = lN (2 ^ p) ∧ a1 2 = lN (2 ^ q) ∧ a1 4 = 0 ∧ a1 5 = 0
def tj_a10 (u : St2) : Nat → Int64 := match u with
  | (fl, fq, fi, fs, fo, fa, fb, ft, fn, fk, a1, a2, a3, a4, a5, a6, a7, a8, a9, a10, a11, a12, a13, a14, a15, a16, a17, a18, a19, a20, a21, a22, a23, a24, a25) => a10
theorem tj_own {post : St2 → Prop} {p q s : Nat} {u : St2} (hs : s < 8) (hp : p < 25) (hq : q < 25) (hP : tj_P p q s u)
    (H : ∀ u', tj_P p q s u' → tj_A (tj_fd p q 1 1) (tj_ans p q s) (tj_a10 u') → post u') : wpX_answerOwn post u 1 := by
  obtain ⟨fl, fq, fi, fs, fo, fa, fb, ft, fn, fk, a1, a2, a3, a4, a5, a6, a7, a8, a9, a10, a11, a12, a13, a14, a15, a16, a17, a18, a19, a20, a21, a22, a23, a24, a25⟩ := u
  obtain ⟨h2, k, b0, b1, z4, z5⟩ := hP
  subst h2
  unfold wpX_answerOwn
  exact tj_all k (tj_work (f := 0) k hs hp hq (by omega) (Nat.le_refl 1) (Nat.le_refl 1) b0 b1 (fun ga gn gk b10 b15 b18 b19 b20 b21 b22 b23 b24 b25 b7 b8 b9 h1 h2 => H _ ⟨rfl, k, b0, b1, z4, z5⟩ h2))
theorem tj_ones {post : Int32 → Prop} {fd ans : Nat} (hA : tj_A fd ans a10) (ha : ans < 125) (hf : fd ≤ 1) (H : post (nI fd)) : wpX_onesIn post (fl, fq, fi, fs, fo, fa, fb, ft, fn, fk, a1, a2, a3, a4, a5, a6, a7, a8, a9, a10, a11, a12, a13, a14, a15, a16, a17, a18, a19, a20, a21, a22, a23, a24, a25) := by
  refine Exists.elim (pk_loop (σ := Unit) (fun m w _ => wX_onesIn_4 post fl fq fi fs fo fa fb ft fn fk a1 a2 a3 a4 a5 a6 a7 a8 a9 a10 a11 a12 a13 a14 a15 a16 a17 a18 a19 a20 a21 a22 a23 a24 a25 m (nI (if fd = 1 ∧ ans / 64 < w then 1 else 0)) (nI w)) (fun _ _ => True) 49 0 () (by omega) trivial ?_ ?_) (fun n hn => ?_)
  rotate_left 2
  · have hn' : wX_onesIn_4 post fl fq fi fs fo fa fb ft fn fk a1 a2 a3 a4 a5 a6 a7 a8 a9 a10 a11 a12 a13 a14 a15 a16 a17 a18 a19 a20 a21 a22 a23 a24 a25 n (nI (if fd = 1 ∧ ans / 64 < 0 then 1 else 0)) (nI 0) := hn
    rw [if_neg (by omega)] at hn'
    exact Exists.intro n hn'
  · intro m _ _
    refine pk_le 49 49 (fun _ => ?_) (fun z => absurd z (by omega))
    have e : (if fd = 1 ∧ ans / 64 < 49 then 1 else 0) = fd := by
      split <;> omega
    rw [e]
    exact H
  · intro m w _ hw _ hW
    have hW' := hW () trivial
    have ew := hA w hw
    refine pk_le 49 w (fun z => absurd z (by omega)) (fun _ => And.intro (pk_in w 49 (by omega)) ?_)
    by_cases e : fd = 1 ∧ w = ans / 64
    · rw [if_pos e] at ew
      have ew' : a10 (nI w).toNatClampNeg = lN (2 ^ (ans % 64)) := by
        rw [nI_clamp (by omega)]
        exact ew
      have t := tj_w2 (ans % 64) (by omega)
      refine nm_r ew' (Exists.intro 2 (br_f t.1 (nm_r t.2 (nm_r (nI_1 _) (br_t rfl (nm_r (nI_1 w) ?_))))))
      rw [if_neg (by omega)]
      rw [if_pos (by omega)] at hW'
      exact hW'
    · rw [if_neg e] at ew
      have ew' : a10 (nI w).toNatClampNeg = 0 := by
        rw [nI_clamp (by omega)]
        exact ew
      refine nm_r ew' (Exists.intro 1 (br_t rfl (nm_r (nI_1 w) ?_)))
      have e2 : (if fd = 1 ∧ ans / 64 < w + 1 then 1 else 0) = (if fd = 1 ∧ ans / 64 < w then 1 else 0) := by
        by_cases h : fd = 1 ∧ ans / 64 < w
        · rw [if_pos h, if_pos (by omega)]
        · rw [if_neg h, if_neg (by omega)]
      rw [e2] at hW'
      exact hW'
theorem tj_fd_le {p q n0 n1 : Nat} : tj_fd p q n0 n1 ≤ 1 := by
  unfold tj_fd
  split <;> omega
theorem tj_count {post : Int32 → St2 → Prop} {p q s : Nat} {u : St2} (hs : s < 8) (hp : p < 25) (hq : q < 25) (hP : tj_P p q s u) (H : ∀ u', tj_P p q s u' → post (nI (tj_fd p q 1 1)) u') : wpX_count post u 1 := by
  obtain ⟨fl, fq, fi, fs, fo, fa, fb, ft, fn, fk, a1, a2, a3, a4, a5, a6, a7, a8, a9, a10, a11, a12, a13, a14, a15, a16, a17, a18, a19, a20, a21, a22, a23, a24, a25⟩ := u
  have k : tj_K s a3 a4 a5 a6 := hP.2.1
  unfold wpX_count
  refine tj_isQ (br_f (by decide) (tj_whole k hs (br_f (by decide) (tj_own hs hp hq hP (fun u' hP' hA => ?_)))))
  obtain ⟨fl, fq, fi, fs, fo, fa, fb, ft, fn, fk, a1, a2, a3, a4, a5, a6, a7, a8, a9, a10, a11, a12, a13, a14, a15, a16, a17, a18, a19, a20, a21, a22, a23, a24, a25⟩ := u'
  exact tj_ones hA (tj_ans125 hp hq) tj_fd_le (H _ hP')
theorem tj_an35 {post : Int32 → St2 → Prop} {fd ans : Nat} (hA : tj_A fd ans a10) (ha : ans < 125) (H1 : fd = 1 → post (nI ans) (fl, fq, fi, fs, fo, fa, fb, ft, fn, fk, a1, a2, a3, a4, a5, a6, a7, a8, a9, a10, a11, a12, a13, a14, a15, a16, a17, a18, a19, a20, a21, a22, a23, a24, a25)) (H0 : fd ≠ 1 → post (-3) (fl, fq, fi, fs, fo, fa, fb, ft, fn, fk, a1, a2, a3, a4, a5, a6, a7, a8, a9, a10, a11, a12, a13, a14, a15, a16, a17, a18, a19, a20, a21, a22, a23, a24, a25)) : ∃ m, wX_answer_35 post fl fq fi fs fo fa fb ft fn fk a1 a2 a3 a4 a5 a6 a7 a8 a9 a10 a11 a12 a13 a14 a15 a16 a17 a18 a19 a20 a21 a22 a23 a24 a25 m 0 0 := by
  refine pk_loop (σ := Unit) (fun m w _ => wX_answer_35 post fl fq fi fs fo fa fb ft fn fk a1 a2 a3 a4 a5 a6 a7 a8 a9 a10 a11 a12 a13 a14 a15 a16 a17 a18 a19 a20 a21 a22 a23 a24 a25 m 0 (nI w)) (fun w _ => ¬ (fd = 1 ∧ ans < w)) 3125 0 () (by omega) (by omega) ?_ ?_
  · intro m _ hI
    exact pk_le 3125 3125 (fun _ => H0 (by omega)) (fun z => absurd z (by omega))
  · intro m w _ hw hI hW
    exact pk_le 3125 w (fun z => absurd z (by omega)) (fun _ => tj_isIn hA (by omega) (fun h => br_f (by decide) (br_t rfl (by rw [h.2]; exact H1 h.1))) (fun h => br_t rfl (nm_r (nI_1 w) (hW () (by omega)))))
theorem tj_answer {post : Int32 → St2 → Prop} {p q s : Nat} {u : St2} (hs : s < 8) (hp : p < 25) (hq : q < 25) (hP : tj_P p q s u) (H : ∀ u', tj_P p q s u' → (tj_fd p q 1 1 = 1 → post (nI (tj_ans p q s)) u') ∧ (tj_fd p q 1 1 ≠ 1 → post (-3) u')) : wpX_answer post u 1 0 := by
  obtain ⟨fl, fq, fi, fs, fo, fa, fb, ft, fn, fk, a1, a2, a3, a4, a5, a6, a7, a8, a9, a10, a11, a12, a13, a14, a15, a16, a17, a18, a19, a20, a21, a22, a23, a24, a25⟩ := u
  have k : tj_K s a3 a4 a5 a6 := hP.2.1
  unfold wpX_answer
  refine tj_isQ (br_f (by decide) (tj_whole k hs (br_f (by decide) (br_t (by decide) (tj_own hs hp hq hP (fun u' hP' hA => ?_))))))
  obtain ⟨fl, fq, fi, fs, fo, fa, fb, ft, fn, fk, a1, a2, a3, a4, a5, a6, a7, a8, a9, a10, a11, a12, a13, a14, a15, a16, a17, a18, a19, a20, a21, a22, a23, a24, a25⟩ := u'
  exact tj_an35 hA (tj_ans125 hp hq) (H _ hP').1 (H _ hP').2
/-- the weight of variable v in an answer's number, from the variables below w -/
def tj_wt (s v : Nat) : Nat → Nat
  | 0 => 1
  | w + 1 => if v < w ∧ s / 2 ^ w % 2 = 1 then tj_wt s v w * 5 else tj_wt s v w
theorem tj_wt1 : ∀ s, s < 8 → ∀ v, v < 3 → tj_wt s v (v + 1) = 1 := by decide +kernel
theorem tj_wt2 : ∀ s, s < 8 → ∀ v, v < 3 → ∀ w, w < 6 → 0 < tj_wt s v w ∧ tj_wt s v w < 26 := by decide +kernel
theorem tj_wt3 : ∀ s, s < 8 → ∀ v, v < 3 → s / 2 ^ v % 2 = 1 → ∀ p, p < 25 → ∀ q, q < 25 → tj_ans p q s / tj_wt s v 5 % 5 = tj_vv p q v := by decide +kernel
theorem tj_of103 {post : Int32 → St2 → Prop} {fd ans wt x : Nat} (hA : tj_A fd ans a10) (ha : ans < 125) (hw0 : 0 < wt) (hw1 : wt < 26) (hx : x < 5) (H : post (nI (if fd = 1 ∧ ans / wt % 5 = x then 1 else 0)) (fl, fq, fi, fs, fo, fa, fb, ft, fn, fk, a1, a2, a3, a4, a5, a6, a7, a8, a9, a10, a11, a12, a13, a14, a15, a16, a17, a18, a19, a20, a21, a22, a23, a24, a25)) : ∃ m, wX_often_103 post (nI x) (nI wt) fl fq fi fs fo fa fb ft fn fk a1 a2 a3 a4 a5 a6 a7 a8 a9 a10 a11 a12 a13 a14 a15 a16 a17 a18 a19 a20 a21 a22 a23 a24 a25 m 0 0 := by
  refine Exists.elim (pk_loop (σ := Unit) (fun m w _ => wX_often_103 post (nI x) (nI wt) fl fq fi fs fo fa fb ft fn fk a1 a2 a3 a4 a5 a6 a7 a8 a9 a10 a11 a12 a13 a14 a15 a16 a17 a18 a19 a20 a21 a22 a23 a24 a25 m (nI (if (fd = 1 ∧ ans / wt % 5 = x) ∧ ans < w then 1 else 0)) (nI w)) (fun _ _ => True) 3125 0 () (by omega) trivial ?_ ?_) (fun n hn => ?_)
  rotate_left 2
  · have hn' : wX_often_103 post (nI x) (nI wt) fl fq fi fs fo fa fb ft fn fk a1 a2 a3 a4 a5 a6 a7 a8 a9 a10 a11 a12 a13 a14 a15 a16 a17 a18 a19 a20 a21 a22 a23 a24 a25 n (nI (if (fd = 1 ∧ ans / wt % 5 = x) ∧ ans < 0 then 1 else 0)) (nI 0) := hn
    rw [if_neg (by omega)] at hn'
    exact Exists.intro n hn'
  · intro m _ _
    refine pk_le 3125 3125 (fun _ => ?_) (fun z => absurd z (by omega))
    have e : (if (fd = 1 ∧ ans / wt % 5 = x) ∧ ans < 3125 then 1 else 0) = (if fd = 1 ∧ ans / wt % 5 = x then 1 else 0) := by
      by_cases h : fd = 1 ∧ ans / wt % 5 = x
      · rw [if_pos h, if_pos ⟨h, by omega⟩]
      · rw [if_neg h, if_neg (fun g => h g.1)]
    rw [e]
    exact H
  · intro m w _ hw _ hW
    have hW' := hW () trivial
    have keep : ¬ ((fd = 1 ∧ ans / wt % 5 = x) ∧ w = ans) → (if (fd = 1 ∧ ans / wt % 5 = x) ∧ ans < w + 1 then 1 else 0) = (if (fd = 1 ∧ ans / wt % 5 = x) ∧ ans < w then 1 else 0) := by
      intro h
      by_cases g : (fd = 1 ∧ ans / wt % 5 = x) ∧ ans < w
      · rw [if_pos g, if_pos ⟨g.1, by omega⟩]
      · rw [if_neg g, if_neg (fun g' => g ⟨g'.1, by have : w ≠ ans := fun z => h ⟨g'.1, z⟩; omega⟩)]
    refine pk_le 3125 w (fun z => absurd z (by omega)) (fun _ => tj_isIn hA (by omega) (fun h => br_f (by decide) ?_) (fun h => br_t rfl (nm_r (nI_1 w) ?_)))
    · have e1 : nI w / nI wt = nI (w / wt) := pk_div (by omega) hw0 (by omega)
      have hlt : w / wt < 2 ^ 31 := Nat.lt_of_le_of_lt (Nat.div_le_self w wt) (by omega)
      have e2 : (nI w / nI wt) - (nI w / nI wt) / 5 * 5 = nI (w / wt % 5) := by
        rw [e1]
        exact pk_rem (d := 5) hlt (by decide) (by decide)
      refine And.intro (nI_ne0 hw0 (by omega)) (And.intro (by decide) (pk_eq (w / wt % 5) x (fun z => nm_r (e' := nI 1) ?_ (nm_r (nI_1 w) ?_)) (fun z => nm_r (nI_1 w) ?_) e2 rfl (by omega) (by omega)))
      · rw [if_neg (by omega)]
        rfl
      · rw [if_pos ⟨⟨h.1, by rw [← h.2]; exact z⟩, by omega⟩] at hW'
        exact hW'
      · rw [keep (fun g => z (by rw [h.2]; exact g.1.2))] at hW'
        exact hW'
    · rw [keep (fun g => h ⟨g.1.1, g.2⟩)] at hW'
      exact hW'
theorem tj_of65 {post : Int32 → St2 → Prop} {fd ans s v x : Nat} (hA : tj_A fd ans a10) (ha : ans < 125) (hs : s < 8) (hv : v < 3) (hx : x < 5) (h6 : a6 1 = nI s) (H : post (nI (if fd = 1 ∧ ans / tj_wt s v 5 % 5 = x then 1 else 0)) (fl, fq, fi, fs, fo, fa, fb, ft, fn, fk, a1, a2, a3, a4, a5, a6, a7, a8, a9, a10, a11, a12, a13, a14, a15, a16, a17, a18, a19, a20, a21, a22, a23, a24, a25)) : ∃ m, wX_often_65 post 1 (nI x) fl fq fi fs fo fa fb ft fn fk a1 a2 a3 a4 a5 a6 a7 a8 a9 a10 a11 a12 a13 a14 a15 a16 a17 a18 a19 a20 a21 a22 a23 a24 a25 m 1 (nI (v + 1)) := by
  have r := pk_loop (σ := Unit) (fun m w _ => wX_often_65 post 1 (nI x) fl fq fi fs fo fa fb ft fn fk a1 a2 a3 a4 a5 a6 a7 a8 a9 a10 a11 a12 a13 a14 a15 a16 a17 a18 a19 a20 a21 a22 a23 a24 a25 m (nI (tj_wt s v w)) (nI w)) (fun w _ => v < w) 5 (v + 1) () (by omega) (by omega) (by
      intro m _ _
      have t := tj_wt2 s hs v hv 5 (by omega)
      exact pk_le 5 5 (fun _ => tj_of103 hA ha t.1 t.2 hx H) (fun z => absurd z (by omega))) (by
      intro m w _ hw hI hW
      have hW' := hW () (by omega)
      have e6 : ((a6 (1 : Int32).toNatClampNeg >>> (nI w &&& 31)) &&& 1) = 0 ↔ s / 2 ^ w % 2 = 0 := by
        rw [show (1 : Int32).toNatClampNeg = 1 from rfl, h6]
        exact tj_bit s hs w hw
      refine pk_le 5 w (fun z => absurd z (by omega)) (fun _ => ⟨pk_in 1 2 (by omega), ek_if e6 (fun z => nm_r (nI_1 w) ?_) (fun z => nm_r (e' := nI (tj_wt s v w * 5)) (pk_mul _ 5) (nm_r (nI_1 w) ?_))⟩)
      · have e : tj_wt s v (w + 1) = tj_wt s v w := if_neg (by omega)
        rw [e] at hW'
        exact hW'
      · have e : tj_wt s v (w + 1) = tj_wt s v w * 5 := if_pos ⟨hI, by omega⟩
        rw [e] at hW'
        exact hW')
  rw [tj_wt1 s hs v hv] at r
  exact r
/-- what often answers -/
def tj_of (p q s : Nat) (v x : Int32) : Int32 :=
  if v < 0 ∨ 5 ≤ v ∨ x < 0 ∨ 5 ≤ x then -1 else if (nI s >>> (v &&& 31)) &&& 1 = 0 then -3 else if tj_fd p q 1 1 = 1 ∧ nI (tj_vv p q v.toNatClampNeg) = x then 1 else 0
theorem tj_often {post : Int32 → St2 → Prop} {p q s : Nat} {u : St2} {v x : Int32} (hs : s < 8) (hp : p < 25) (hq : q < 25) (hP : tj_P p q s u) (H : ∀ u', tj_P p q s u' → post (tj_of p q s v x) u') : wpX_often post u 1 v x := by
  obtain ⟨fl, fq, fi, fs, fo, fa, fb, ft, fn, fk, a1, a2, a3, a4, a5, a6, a7, a8, a9, a10, a11, a12, a13, a14, a15, a16, a17, a18, a19, a20, a21, a22, a23, a24, a25⟩ := u
  have k : tj_K s a3 a4 a5 a6 := hP.2.1
  have h6 : a6 1 = nI s := k.2.2.2.2.2.2.2.2.2
  have HB : (v < 0 ∨ 5 ≤ v ∨ x < 0 ∨ 5 ≤ x) → post (-1) (fl, fq, fi, fs, fo, fa, fb, ft, fn, fk, a1, a2, a3, a4, a5, a6, a7, a8, a9, a10, a11, a12, a13, a14, a15, a16, a17, a18, a19, a20, a21, a22, a23, a24, a25) := by
    intro h
    have t := H _ hP
    rw [show tj_of p q s v x = -1 from if_pos h] at t
    exact t
  unfold wpX_often
  refine tj_isQ (br_f (by decide) (br_c (fun h1 => HB (Or.inl h1)) (fun h1 => br_c (fun h2 => HB (Or.inr (Or.inl h2))) (fun h2 => br_c (fun h3 => HB (Or.inr (Or.inr (Or.inl h3)))) (fun h3 => br_c (fun h4 => ?_) (fun h4 => HB (Or.inr (Or.inr (Or.inr (Int32.not_lt.mp h4))))))))))
  have hn : ¬ (v < 0 ∨ 5 ≤ v ∨ x < 0 ∨ 5 ≤ x) := by
    intro h
    rcases h with h | h | h | h
    · exact h1 h
    · exact h2 h
    · exact h3 h
    · exact absurd h4 (Int32.not_lt.mpr h)
  obtain ⟨v', hv', rfl⟩ := nI_of h1
  obtain ⟨x', hx', rfl⟩ := nI_of h3
  have hv5 : v' < 5 := by
    have := mt (nI_leI (a := 5) (b := v') (by decide) hv').mpr h2
    omega
  have hx5 : x' < 5 := (nI_ltI (a := x') (b := 5) hx' (by decide)).mp h4
  refine tj_whole k hs (br_f (by decide) (And.intro (pk_in 1 2 (by omega)) ?_))
  have e6 : ((a6 (1 : Int32).toNatClampNeg >>> (nI v' &&& 31)) &&& 1) = 0 ↔ ((nI s >>> (nI v' &&& 31)) &&& 1) = 0 := by
    rw [show (1 : Int32).toNatClampNeg = 1 from rfl, h6]
  refine ek_if e6 (fun z => ?_) (fun z => ?_)
  · have t := H _ hP
    rw [show tj_of p q s (nI v') (nI x') = -3 from (if_neg hn).trans (if_pos z)] at t
    exact t
  · have hb : ¬ s / 2 ^ v' % 2 = 0 := fun g => z ((tj_bit s hs v' hv5).mpr g)
    have hv3 : v' < 3 := by
      have h8 : ∀ s, s < 8 → ∀ v, v < 5 → ¬ s / 2 ^ v % 2 = 0 → v < 3 := by decide +kernel
      exact h8 s hs v' hv5 hb
    refine tj_own hs hp hq hP (fun u' hP' hA => nm_r (nI_1 v') ?_)
    obtain ⟨fl, fq, fi, fs, fo, fa, fb, ft, fn, fk, a1, a2, a3, a4, a5, a6, a7, a8, a9, a10, a11, a12, a13, a14, a15, a16, a17, a18, a19, a20, a21, a22, a23, a24, a25⟩ := u'
    have h6' : a6 1 = nI s := hP'.2.1.2.2.2.2.2.2.2.2.2
    refine tj_of65 hA (tj_ans125 hp hq) hs hv3 hx5 h6' ?_
    have t := H _ hP'
    have e : tj_of p q s (nI v') (nI x') = nI (if tj_fd p q 1 1 = 1 ∧ tj_ans p q s / tj_wt s v' 5 % 5 = x' then 1 else 0) := by
      unfold tj_of
      rw [if_neg hn, if_neg z, tj_wt3 s hs v' hv3 (by omega) p hp q hq, nI_clamp hv']
      have h5 := tj_vv5 (v := v') hp hq
      by_cases g : tj_fd p q 1 1 = 1 ∧ tj_vv p q v' = x'
      · rw [if_pos g, if_pos ⟨g.1, by rw [g.2]⟩]
        rfl
      · rw [if_neg g, if_neg (fun g' => g ⟨g'.1, (nI_eq (by omega) (by omega)).mp g'.2⟩)]
        rfl
    rw [e] at t
    exact t
end
end
section
section
variable {fl fq fi fs fo fa fb ft fn fk : Int32} {a1 a10 a11 a12 : Nat → Int64} {a2 a3 a4 a5 a6 a7 a8 a9 a13 a14 a15 a16 a17 a18 a19 a20 a21 a22 a23 a24 a25 : Nat → Int32}
theorem tj_Lupd {p q i : Nat} {a7 a8 a9 : Nat → Int32} {x : Int32} (hL : tj_L p q 1 1 a7 a8 a9) (hx : x = nI 1) : tj_L p q 1 1 a7 a8 (upd a9 i x) := by
  intro j hj
  obtain ⟨l7, l9, l8⟩ := hL j hj
  refine ⟨l7, ?_, l8⟩
  have e1 : tj_nn 1 1 j = 1 := by
    unfold tj_nn
    split <;> rfl
  by_cases e : j = i
  · rw [e, pk_us, hx, ← e, e1]
  · rw [pk_un e]
    exact l9
theorem tj_useful {post : Int32 → St2 → Prop} {p q s i : Nat} (k : tj_K s a3 a4 a5 a6) (hs : s < 8) (hp : p < 25) (hq : q < 25) (hi : i < 2) (hL : tj_L p q 1 1 a7 a8 a9)
    (H : ∀ (ga gn gk : Int32) (b10 : Nat → Int64) (b15 b18 b19 b20 b21 b22 b23 b24 b25 : Nat → Int32) (b9 : Nat → Int32), tj_L p q 1 1 a7 a8 b9 → post (nI (tj_fd p q 1 1)) (2, 1, 3, fs, 1, ga, fb, ft, gn, gk, a1, a2, a3, a4, a5, a6, a7, a8, b9, b10, a11, a12, a13, a14, b15, a16, a17, b18, b19, b20, b21, b22, b23, b24, b25)) : wpX_usefulRows post (2, 1, 3, fs, fo, fa, fb, ft, fn, fk, a1, a2, a3, a4, a5, a6, a7, a8, a9, a10, a11, a12, a13, a14, a15, a16, a17, a18, a19, a20, a21, a22, a23, a24, a25) (nI i) := by
  have c1 : (nI i).toNatClampNeg = i := nI_clamp (by omega)
  obtain ⟨l7, l9, l8⟩ := hL i hi
  have e1 : tj_nn 1 1 i = 1 := by
    unfold tj_nn
    split <;> rfl
  rw [e1] at l7 l9
  have d0 : ¬ a7 (nI i).toNatClampNeg ≤ 0 := by
    rw [c1, l7]
    decide
  have d1 : a7 (nI i).toNatClampNeg ≤ nI 1 := by
    rw [c1, l7]
    decide
  have fl1 := tj_fd_le (p := p) (q := q) (n0 := 1) (n1 := 1)
  refine br_f (tj_b3 i hi) (And.intro (pk_in i 4 (by omega)) (nm_r (e' := nI 1) (by rw [c1]; exact l9) (Exists.intro 2 ?_)))
  refine And.intro (pk_in i 4 (by omega)) (br_f d0 (br_f (by decide) (And.intro (pk_in i 4 (by omega)) (nm_r (e' := upd a9 i (nI 1)) (by rw [c1]; rfl) ?_))))
  refine tj_search (fo := 1) k hs hp hq (Nat.le_refl 1) (Nat.le_refl 1) (tj_Lupd hL rfl) (fun ga gn gk b10 b15 b18 b19 b20 b21 b22 b23 b24 b25 h1 h2 => ?_)
  have fin : ∀ (m : Nat), wX_usefulRows_25 post (nI i) (nI 1) (m + 1) (nI (tj_fd p q 1 1)) (nI 1) 2 1 3 fs 1 ga fb ft gn gk a1 a2 a3 a4 a5 a6 a7 a8 (upd a9 i (nI 1)) b10 a11 a12 a13 a14 b15 a16 a17 b18 b19 b20 b21 b22 b23 b24 b25 := fun m =>
    And.intro (pk_in i 4 (by omega)) (br_t d1 (And.intro (pk_in i 4 (by omega)) (nm_r (e' := upd (upd a9 i (nI 1)) i (nI 1)) (by rw [c1]) (H ga gn gk b10 b15 b18 b19 b20 b21 b22 b23 b24 b25 _ (tj_Lupd (tj_Lupd hL rfl) rfl)))))
  refine pk_eq (tj_fd p q 1 1) 0 (fun z => nm_r (e' := nI 1) (by decide) ?_) (fun z => nm_r (e' := nI (tj_fd p q 1 1)) ?_ (nm_r (e' := nI 1) (by decide) (fin 0))) h1
  · have t := fin 0
    rw [z] at t
    exact t
  · rw [show tj_fd p q 1 1 = 1 by omega]
    decide
theorem tj_keep {post : St2 → Prop} {p q s : Nat} (k : tj_K s a3 a4 a5 a6) (hs : s < 8) (hp : p < 25) (hq : q < 25) (hL : tj_L p q 1 1 a7 a8 a9)
    (H : ∀ (ga gn gk : Int32) (b10 : Nat → Int64) (b15 b18 b19 b20 b21 b22 b23 b24 b25 : Nat → Int32) (b9 : Nat → Int32), b9 0 = nI (tj_fd p q 1 1) → b9 1 = nI (tj_fd p q 1 1) → post (2, 1, 3, fs, 1, ga, fb, ft, gn, gk, a1, a2, a3, a4, a5, a6, a7, a8, b9, b10, a11, a12, a13, a14, b15, a16, a17, b18, b19, b20, b21, b22, b23, b24, b25)) : wpX_keepUseful post (2, 1, 3, fs, fo, fa, fb, ft, fn, fk, a1, a2, a3, a4, a5, a6, a7, a8, a9, a10, a11, a12, a13, a14, a15, a16, a17, a18, a19, a20, a21, a22, a23, a24, a25) := by
  unfold wpX_keepUseful
  refine tj_useful (i := 0) k hs hp hq (by omega) hL (fun ga gn gk b10 b15 b18 b19 b20 b21 b22 b23 b24 b25 b9 hL1 => ?_)
  refine tj_useful (i := 1) k hs hp hq (by omega) hL1 (fun ga gn gk b10 b15 b18 b19 b20 b21 b22 b23 b24 b25 b9 hL2 => ?_)
  refine br_t (by decide) (br_t (by decide) (nm_e (nm_e (nm_e (nm_e (H ga gn gk b10 b15 b18 b19 b20 b21 b22 b23 b24 b25 _ ?_ ?_))))))
  · rw [pk_un (by decide), pk_un (by decide), pk_un (by decide), pk_us]
  · rw [pk_un (by decide), pk_un (by decide), pk_us]
theorem tj_id100 {post : Int32 → St2 → Prop} {J87 : Int32 → Int32 → Int32 → Int32 → Int32 → Int32 → Int32 → Int32 → Int32 → Int32 → Int32 → (Nat → Int64) → (Nat → Int32) → (Nat → Int32) → (Nat → Int32) → (Nat → Int32) → (Nat → Int32) → (Nat → Int32) → (Nat → Int32) → (Nat → Int32) → (Nat → Int64) → (Nat → Int64) → (Nat → Int64) → (Nat → Int32) → (Nat → Int32) → (Nat → Int32) → (Nat → Int32) → (Nat → Int32) → (Nat → Int32) → (Nat → Int32) → (Nat → Int32) → (Nat → Int32) → (Nat → Int32) → (Nat → Int32) → (Nat → Int32) → (Nat → Int32) → Prop} {p q s i fd : Nat} (k : tj_K s a3 a4 a5 a6) (hp : p < 25) (hq : q < 25) (hi : i < 2) (hf : fd ≤ 1) (h7 : a7 i = nI 1) (h8 : a8 (16 * i) = nI (tj_row p q i)) (h9 : a9 i = nI fd) (hz : a1 (6 + 2 * i) = 0)
    (H : ∀ b1 : Nat → Int64, b1 (6 + 2 * i) = tj_wd fd (tj_row p q i) → (∀ j, j ≠ 6 + 2 * i → b1 j = a1 j) → J87 (nI (i + 1)) fl fq fi fs fo fa fb ft fn fk b1 a2 a3 a4 a5 a6 a7 a8 a9 a10 a11 a12 a13 a14 a15 a16 a17 a18 a19 a20 a21 a22 a23 a24 a25) :
    ∃ m, wX_idle_100 post J87 1 (nI i) m 0 fl fq fi fs fo fa fb ft fn fk a1 a2 a3 a4 a5 a6 a7 a8 a9 a10 a11 a12 a13 a14 a15 a16 a17 a18 a19 a20 a21 a22 a23 a24 a25 := by
  have c1 : (nI i).toNatClampNeg = i := nI_clamp (by omega)
  have h41 : (4 : Int32) * 1 + nI i = nI (4 + i) := (show ∀ i, i < 2 → (4 : Int32) * 1 + nI i = nI (4 + i) by decide +kernel) i hi
  have h16 : (16 : Int32) * nI i + 0 = nI (16 * i) := (show ∀ i, i < 2 → (16 : Int32) * nI i + 0 = nI (16 * i) by decide +kernel) i hi
  have h4 : a4 (4 + i) = nI i := by
    have h : i = 0 ∨ i = 1 := by omega
    rcases h with rfl | rfl
    · exact k.2.1
    · exact k.2.2.1
  have hrow : tj_row p q i < 25 := by
    unfold tj_row
    split <;> omega
  have d0 : ¬ a7 (nI i).toNatClampNeg ≤ 0 := by
    rw [c1, h7]
    decide
  have d1 : a7 (nI i).toNatClampNeg ≤ 1 := by
    rw [c1, h7]
    decide
  refine Exists.intro 2 (And.intro (pk_in i 4 (by omega)) (br_f d0 (And.intro (pk_in i 4 (by omega)) ?_)))
  have hcase : fd = 0 ∨ fd = 1 := by omega
  rcases hcase with h0 | h0
  · subst h0
    refine br_t (by rw [c1, h9]; decide) (nm_r (e' := 1) (by decide) (And.intro (pk_in i 4 (by omega)) (br_t d1 (nm_r (nI_1 i) (H a1 ?_ (fun _ _ => rfl))))))
    rw [hz]
    rfl
  · subst h0
    refine br_f (by rw [c1, h9]; decide) (And.intro (pk_in _ 8 (by omega) h41) (And.intro (pk_in _ 64 (by omega) h16) ?_))
    rw [h41, h16, nI_clamp (show 4 + i < 2 ^ 31 by omega), nI_clamp (show 16 * i < 2 ^ 31 by omega), h4, h8]
    refine tj_setRow (k := 6 + 2 * i) (tj_k i (by omega)).2 (by omega) (by omega) hz (nm_r (e' := 1) (by decide) (And.intro (pk_in i 4 (by omega)) (br_t d1 (nm_r (nI_1 i) (H _ pk_uLs (fun j hj => pk_uLn hj))))))
theorem tj_id179 {post : Int32 → St2 → Prop} {J170 : Int32 → Int32 → Prop} {r c w0 fd : Nat} (hr : r < 2) (hw0 : w0 < 25) (hc : c < 10) (hb : a1 (2 * r) = tj_wd 1 w0) (hb2 : a1 (6 + 2 * r) = tj_wd fd w0)
    (H : J170 (nI (c + (if fd = 1 then 0 else 1))) (nI (r + 1))) : ∃ m, wX_idle_179 post J170 (nI r) fl fq fi fs fo fa fb ft fn fk a1 a2 a3 a4 a5 a6 a7 a8 a9 a10 a11 a12 a13 a14 a15 a16 a17 a18 a19 a20 a21 a22 a23 a24 a25 m (nI c) 0 := by
  have r0 := pk_loop (σ := Unit) (fun m w _ => wX_idle_179 post J170 (nI r) fl fq fi fs fo fa fb ft fn fk a1 a2 a3 a4 a5 a6 a7 a8 a9 a10 a11 a12 a13 a14 a15 a16 a17 a18 a19 a20 a21 a22 a23 a24 a25 m (nI (c + (if ¬ fd = 1 ∧ w0 < w then 1 else 0))) (nI w)) (fun _ _ => True) 125 0 () (by omega) trivial (by
    intro m _ _
    refine pk_le 125 125 (fun _ => nm_r (nI_1 r) ?_) (fun z => absurd z (by omega))
    have e : (if ¬ fd = 1 ∧ w0 < 125 then 1 else 0) = (if fd = 1 then 0 else 1) := by
      by_cases h : fd = 1
      · rw [if_pos h, if_neg (fun g => g.1 h)]
      · rw [if_neg h, if_pos ⟨h, by omega⟩]
    rw [e]
    exact H) (by
    intro m w _ hw _ hW
    have hW' := hW () trivial
    have keep : ¬ (¬ fd = 1 ∧ w = w0) → (if ¬ fd = 1 ∧ w0 < w + 1 then 1 else 0) = (if ¬ fd = 1 ∧ w0 < w then 1 else 0) := by
      intro h
      by_cases g : ¬ fd = 1 ∧ w0 < w
      · rw [if_pos g, if_pos ⟨g.1, by omega⟩]
      · rw [if_neg g, if_neg (fun g' => g ⟨g'.1, by have : w ≠ w0 := fun z => h ⟨g'.1, z⟩; omega⟩)]
    refine pk_le 125 w (fun z => absurd z (by omega)) (fun _ => tj_isRowG (by omega) hw (fun h => br_f (by decide) ?_) (fun h => br_t rfl (nm_r (nI_1 w) ?_)))
    · have hw25 : w < 25 := by omega
      refine tj_hasRowW (k := 2 * r) (tj_k r (by omega)).1 (by omega) (by omega) (by omega) hb (fun h1 => br_f (by decide) ?_) (fun h1 => br_t rfl (nm_r (nI_1 w) ?_))
      · refine tj_hasRowW (k := 6 + 2 * r) (tj_k r (by omega)).2 (by omega) (by omega) (by omega) hb2 (fun h2 => br_f (by decide) (nm_r (nI_1 w) ?_)) (fun h2 => br_t rfl (nm_r (nI_1 _) (nm_r (nI_1 w) ?_)))
        · rw [keep (fun g => g.1 h2.1)] at hW'
          exact hW'
        · have hfd : ¬ fd = 1 := fun z => h2 ⟨z, h1.2⟩
          rw [if_pos ⟨hfd, by omega⟩] at hW'
          rw [if_neg (by omega)]
          exact hW'
      · rw [keep (fun g => h1 ⟨rfl, g.2⟩)] at hW'
        exact hW'
    · rw [keep (fun g => h (Or.inr (by omega)))] at hW'
      exact hW')
  rw [if_neg (by omega)] at r0
  exact r0
theorem tj_id179z {post : Int32 → St2 → Prop} {J170 : Int32 → Int32 → Prop} {c : Int32} (hb4 : a1 4 = 0) (hb5 : a1 5 = 0)
    (H : J170 c 3) : ∃ m, wX_idle_179 post J170 2 fl fq fi fs fo fa fb ft fn fk a1 a2 a3 a4 a5 a6 a7 a8 a9 a10 a11 a12 a13 a14 a15 a16 a17 a18 a19 a20 a21 a22 a23 a24 a25 m c 0 := by
  refine pk_loop (σ := Unit) (fun m w _ => wX_idle_179 post J170 2 fl fq fi fs fo fa fb ft fn fk a1 a2 a3 a4 a5 a6 a7 a8 a9 a10 a11 a12 a13 a14 a15 a16 a17 a18 a19 a20 a21 a22 a23 a24 a25 m c (nI w)) (fun _ _ => True) 125 0 () (by omega) trivial ?_ ?_
  · intro m _ _
    exact pk_le 125 125 (fun _ => nm_r (e' := 3) (by decide) H) (fun z => absurd z (by omega))
  · intro m w _ hw _ hW
    refine pk_le 125 w (fun z => absurd z (by omega)) (fun _ => tj_isRowG (r := 2) (by omega) hw (fun h => br_f (by decide) (tj_hasRow0 (k := 4) (by decide) (by omega) (by omega) ?_ (br_t rfl (nm_r (nI_1 w) (hW () trivial))))) (fun h => absurd (Or.inl rfl) h))
    have h : w / 64 = 0 ∨ w / 64 = 1 := by omega
    rcases h with h | h
    · rw [h]
      exact hb4
    · rw [h]
      exact hb5
theorem tj_id66 {post : Int32 → St2 → Prop} (H : ∀ b1 : Nat → Int64, (∀ j, j < 6 → b1 j = a1 j) → (∀ j, 6 ≤ j → j < 12 → b1 j = 0) → ∃ m, wX_idle_87 post 1 m 0 fl fq fi fs fo fa fb ft fn fk b1 a2 a3 a4 a5 a6 a7 a8 a9 a10 a11 a12 a13 a14 a15 a16 a17 a18 a19 a20 a21 a22 a23 a24 a25) : ∃ m, wX_idle_66 post 1 fl fq fi fs fo fa fb ft fn fk m 6 a1 a2 a3 a4 a5 a6 a7 a8 a9 a10 a11 a12 a13 a14 a15 a16 a17 a18 a19 a20 a21 a22 a23 a24 a25 := by
  refine pk_loop (fun m w b => wX_idle_66 post 1 fl fq fi fs fo fa fb ft fn fk m (nI w) b a2 a3 a4 a5 a6 a7 a8 a9 a10 a11 a12 a13 a14 a15 a16 a17 a18 a19 a20 a21 a22 a23 a24 a25) (fun w b => (∀ j, j < 6 → b j = a1 j) ∧ (∀ j, 6 ≤ j → j < w → b j = 0) ∧ 6 ≤ w) 12 6 a1 (by omega) ⟨fun _ _ => rfl, fun j h1 h2 => absurd h2 (by omega), Nat.le_refl 6⟩ ?_ ?_
  · intro m b hI
    exact pk_le 12 12 (fun _ => H b hI.1 hI.2.1) (fun z => absurd z (by omega))
  · intro m w b hw hI hW
    obtain ⟨g1, g2, g3⟩ := hI
    refine pk_le 12 w (fun z => absurd z (by omega)) (fun _ => And.intro (pk_in w 12 (by omega)) (nm_r (e' := vp_updL b w 0) (by rw [nI_clamp (by omega)]) (nm_r (nI_1 w) (hW _ ⟨fun j hj => ?_, fun j h1 h2 => ?_, by omega⟩))))
    · rw [pk_uLn (by omega)]
      exact g1 j hj
    · by_cases e : j = w
      · rw [e, pk_uLs]
      · rw [pk_uLn e]
        exact g2 j h1 (by omega)
theorem tj_idle {post : Int32 → St2 → Prop} {p q s : Nat} {u : St2} (hs : s < 8) (hp : p < 25) (hq : q < 25) (hP : tj_P p q s u) (H : ∀ u', tj_P p q s u' → post (nI (if tj_fd p q 1 1 = 1 then 0 else 2)) u') : wpX_idle post u 1 := by
  obtain ⟨fl, fq, fi, fs, fo, fa, fb, ft, fn, fk, a1, a2, a3, a4, a5, a6, a7, a8, a9, a10, a11, a12, a13, a14, a15, a16, a17, a18, a19, a20, a21, a22, a23, a24, a25⟩ := u
  obtain ⟨h2, k, b0, b1, z4, z5⟩ := hP
  subst h2
  have k3 : a3 1 = 2 := k.1
  have hf := tj_fd_le (p := p) (q := q) (n0 := 1) (n1 := 1)
  unfold wpX_idle
  refine tj_isQ (br_f (by decide) (And.intro (pk_in 1 2 (by omega)) (br_f (show ¬ a3 1 = 0 by rw [k3]; decide) (tj_all k (tj_start (f := 0) k (by omega) (Nat.le_refl 1) (Nat.le_refl 1) hp hq b0 b1 (fun b7 b8 b9 hL => br_f (by decide) ?_))))))
  refine tj_keep k hs hp hq hL (fun ga gn gk b10 b15 b18 b19 b20 b21 b22 b23 b24 b25 c9 e0 e1 => ?_)
  obtain ⟨l70, l90, l80⟩ := hL 0 (by omega)
  obtain ⟨l71, l91, l81⟩ := hL 1 (by omega)
  refine tj_id66 (fun c1 g1 g2 => Exists.intro 3 ?_)
  refine And.intro (pk_in 1 2 (by omega)) (br_f (show ¬ a3 1 ≤ 0 by rw [k3]; decide) ?_)
  refine tj_id100 (p := p) (q := q) (i := 0) k hp hq (by omega) hf l70 (l80 rfl) e0 (g2 6 (by omega) (by omega)) (fun d1 w0 w1 => ?_)
  refine And.intro (pk_in 1 2 (by omega)) (br_f (show ¬ a3 1 ≤ nI (0 + 1) by rw [k3]; decide) ?_)
  refine tj_id100 (p := p) (q := q) (i := 1) k hp hq (by omega) hf l71 (l81 rfl) e1 (by rw [w1 _ (by omega)]; exact g2 8 (by omega) (by omega)) (fun f1 x0 x1 => ?_)
  refine And.intro (pk_in 1 2 (by omega)) (br_t (show a3 1 ≤ nI (1 + 1) by rw [k3]; decide) (Exists.intro 4 ?_))
  have y0 : f1 0 = lN (2 ^ p) := by rw [x1 0 (by omega), w1 0 (by omega), g1 0 (by omega), b0]
  have y2 : f1 2 = lN (2 ^ q) := by rw [x1 2 (by omega), w1 2 (by omega), g1 2 (by omega), b1]
  have y4 : f1 4 = 0 := by rw [x1 4 (by omega), w1 4 (by omega), g1 4 (by omega), z4]
  have y5 : f1 5 = 0 := by rw [x1 5 (by omega), w1 5 (by omega), g1 5 (by omega), z5]
  have y6 : f1 6 = tj_wd (tj_fd p q 1 1) p := by rw [x1 6 (by omega)]; exact w0
  have y8 : f1 8 = tj_wd (tj_fd p q 1 1) q := x0
  refine br_f (by decide) (tj_id179 (r := 0) (c := 0) (w0 := p) (fd := tj_fd p q 1 1) (by omega) hp (by omega) y0 y6 ?_)
  refine br_f (by decide) (tj_id179 (r := 1) (w0 := q) (fd := tj_fd p q 1 1) (by omega) hq (by split <;> omega) y2 y8 ?_)
  refine br_f (by decide) (tj_id179z y4 y5 ?_)
  have hpost := H _ (show tj_P p q s (2, 1, 3, (nI 0), 1, ga, fb, ft, gn, gk, f1, a2, a3, a4, a5, a6, b7, b8, c9, b10, a11, a12, a13, a14, b15, a16, a17, b18, b19, b20, b21, b22, b23, b24, b25) from ⟨rfl, k, y0, y2, y4, y5⟩)
  refine br_t (by decide) ?_
  have e : 0 + (if tj_fd p q 1 1 = 1 then 0 else 1) + (if tj_fd p q 1 1 = 1 then 0 else 1) = (if tj_fd p q 1 1 = 1 then 0 else 2) := by
    split <;> rfl
  rw [e]
  exact hpost
end
end
section
section
variable {fl fq fi fs fo fa fb ft fn fk : Int32} {a1 a10 a11 a12 : Nat → Int64} {a2 a3 a4 a5 a6 a7 a8 a9 a13 a14 a15 a16 a17 a18 a19 a20 a21 a22 a23 a24 a25 : Nat → Int32}
theorem tj_hang0 {post : Int32 → Prop} {s : Nat} (k : tj_K s a3 a4 a5 a6) (H : post 1) : wpX_whereToHang post (fl, fq, fi, fs, fo, fa, fb, ft, fn, fk, a1, a2, a3, a4, a5, a6, a7, a8, a9, a10, a11, a12, a13, a14, a15, a16, a17, a18, a19, a20, a21, a22, a23, a24, a25) 1 3 0 := by
  refine nm_r (e' := 2) (by decide) (br_f (by decide) (tj_voa0 k (by decide) (tj_vof2 k (nm_r (e' := 2) (by decide) (Exists.intro 2 ?_)))))
  refine br_f (by decide) (br_t (by decide) (nm_r (e' := 1) (by decide) ?_))
  exact br_f (by decide) (br_f (by decide) (tj_voa1 k (by decide) (br_t (by decide) H)))
theorem tj_hang1 {post : Int32 → Prop} (H : post (-1)) : wpX_whereToHang post (fl, fq, fi, fs, fo, fa, fb, ft, fn, fk, a1, a2, a3, a4, a5, a6, a7, a8, a9, a10, a11, a12, a13, a14, a15, a16, a17, a18, a19, a20, a21, a22, a23, a24, a25) 1 2 1 :=
  nm_r (e' := 0) (by decide) (br_t rfl H)
theorem tj_find {post : Int32 → St2 → Prop} {s : Nat} (k : tj_K s a3 a4 a5 a6) (H : ∀ (gt : Int32) (b16 b17 : Nat → Int32), post 1 (fl, fq, fi, fs, fo, fa, fb, gt, fn, fk, a1, a2, a3, a4, a5, a6, a7, a8, a9, a10, a11, a12, a13, a14, a15, b16, b17, a18, a19, a20, a21, a22, a23, a24, a25)) : wpX_findTree post (fl, fq, fi, fs, fo, fa, fb, ft, fn, fk, a1, a2, a3, a4, a5, a6, a7, a8, a9, a10, a11, a12, a13, a14, a15, a16, a17, a18, a19, a20, a21, a22, a23, a24, a25) 1 3 := by
  refine Exists.intro 3 ?_
  refine br_f (by decide) (br_f (by decide) (Exists.intro 2 ?_))
  refine br_f (by decide) (br_t rfl (br_f (by decide) (tj_hang0 k (br_f (by decide) (And.intro (pk_in 0 4 (by omega)) (nm_e (And.intro (pk_in 0 4 (by omega)) (nm_e (nm_r (e' := 1) (by decide) (nm_r (e' := 2) (by decide) (nm_r (e' := 1) (by decide) ?_)))))))))))
  refine br_f (by decide) (br_f (by decide) ?_)
  refine br_f (by decide) (br_f (by decide) (Exists.intro 3 ?_))
  refine br_f (by decide) (br_t rfl (br_t (by decide) (nm_r (e' := 1) (by decide) ?_)))
  refine br_f (by decide) (br_t rfl (br_f (by decide) (tj_hang1 (br_f (by decide) (And.intro (pk_in 1 4 (by omega)) (nm_e (And.intro (pk_in 1 4 (by omega)) (nm_e (nm_r (e' := 2) (by decide) (nm_r (e' := 0) (by decide) (nm_r (e' := 2) (by decide) ?_)))))))))))
  refine br_f (by decide) (br_f (by decide) ?_)
  exact br_t rfl (br_t rfl (H _ _ _))
theorem tj_tree {post : Int32 → St2 → Prop} {p q s : Nat} {u : St2} (hP : tj_P p q s u) (H : ∀ u', tj_P p q s u' → post 1 u') : wpX_treeLike post u 1 := by
  obtain ⟨fl, fq, fi, fs, fo, fa, fb, ft, fn, fk, a1, a2, a3, a4, a5, a6, a7, a8, a9, a10, a11, a12, a13, a14, a15, a16, a17, a18, a19, a20, a21, a22, a23, a24, a25⟩ := u
  obtain ⟨h2, k, b0, b1, z4, z5⟩ := hP
  unfold wpX_treeLike
  exact tj_isQ (br_f (by decide) (tj_all k (tj_find k (fun gt b16 b17 => br_f (by decide) (H _ ⟨h2, k, b0, b1, z4, z5⟩)))))
theorem tj_fr3 {post : St2 → Prop} {x2 : Int32} (H : ∀ b1 : Nat → Int64, (∀ j, j < 6 → b1 j = a1 j) → (∀ j, 6 ≤ j → j < 12 → b1 j = 0) → ∃ m, wX_freeze_24 post 1 x2 m 0 fl fq fi fs fo fa fb ft fn fk b1 a2 a3 a4 a5 a6 a7 a8 a9 a10 a11 a12 a13 a14 a15 a16 a17 a18 a19 a20 a21 a22 a23 a24 a25) : ∃ m, wX_freeze_3 post 1 x2 fl fq fi fs fo fa fb ft fn fk m 6 a1 a2 a3 a4 a5 a6 a7 a8 a9 a10 a11 a12 a13 a14 a15 a16 a17 a18 a19 a20 a21 a22 a23 a24 a25 := by
  refine pk_loop (fun m w b => wX_freeze_3 post 1 x2 fl fq fi fs fo fa fb ft fn fk m (nI w) b a2 a3 a4 a5 a6 a7 a8 a9 a10 a11 a12 a13 a14 a15 a16 a17 a18 a19 a20 a21 a22 a23 a24 a25) (fun w b => (∀ j, j < 6 → b j = a1 j) ∧ (∀ j, 6 ≤ j → j < w → b j = 0) ∧ 6 ≤ w) 12 6 a1 (by omega) ⟨fun _ _ => rfl, fun j h1 h2 => absurd h2 (by omega), Nat.le_refl 6⟩ ?_ ?_
  · intro m b hI
    exact pk_le 12 12 (fun _ => H b hI.1 hI.2.1) (fun z => absurd z (by omega))
  · intro m w b hw hI hW
    obtain ⟨g1, g2, g3⟩ := hI
    refine pk_le 12 w (fun z => absurd z (by omega)) (fun _ => And.intro (pk_in w 12 (by omega)) (nm_r (e' := vp_updL b w 0) (by rw [nI_clamp (by omega)]) (nm_r (nI_1 w) (hW _ ⟨fun j hj => ?_, fun j h1 h2 => ?_, by omega⟩))))
    · rw [pk_uLn (by omega)]
      exact g1 j hj
    · by_cases e : j = w
      · rw [e, pk_uLs]
      · rw [pk_uLn e]
        exact g2 j h1 (by omega)
theorem tj_freeze2 {post : St2 → Prop} {s : Nat} (k : tj_K s a3 a4 a5 a6) (H : ∀ b1 : Nat → Int64, (∀ j, j < 6 → b1 j = a1 j) → b1 6 = tj_wd 0 0 → b1 8 = tj_wd 1 7 → post (fl, fq, fi, fs, fo, fa, fb, ft, fn, fk, b1, a2, a3, a4, a5, a6, a7, a8, a9, a10, a11, a12, a13, a14, a15, a16, a17, a18, a19, a20, a21, a22, a23, a24, a25)) : wpX_freeze post (fl, fq, fi, fs, fo, fa, fb, ft, fn, fk, a1, a2, a3, a4, a5, a6, a7, a8, a9, a10, a11, a12, a13, a14, a15, a16, a17, a18, a19, a20, a21, a22, a23, a24, a25) 1 2 := by
  have h4 : a4 5 = 1 := k.2.2.1
  have h15 : a5 15 = 1 := k.2.2.2.2.2.2.1
  have h16 : a5 16 = 2 := k.2.2.2.2.2.2.2.1
  refine tj_fr3 (fun c1 g1 g2 => Exists.intro 5 ?_)
  refine br_f (by decide) (br_t (by decide) (nm_r (e' := 1) (by decide) ?_))
  refine br_f (by decide) (br_f (by decide) (nm_r (e' := 5) (by decide) (Exists.intro 3 ?_)))
  refine And.intro (pk_in 5 8 (by omega)) (br_f (show ¬ a4 5 = 2 by rw [h4]; decide) (br_f (by decide) (And.intro (pk_in 15 24 (by omega)) (nm_r (e' := 1) (show (5 : Int32) * 0 + a5 15 = 1 by rw [h15]; decide) (nm_r (e' := 1) (by decide) ?_)))))
  refine And.intro (pk_in 5 8 (by omega)) (br_f (show ¬ a4 5 = 2 by rw [h4]; decide) (br_f (by decide) (And.intro (pk_in 16 24 (by omega)) (nm_r (e' := nI 7) (show (5 : Int32) * 1 + a5 16 = nI 7 by rw [h16]; decide) (nm_r (e' := 2) (by decide) ?_)))))
  refine And.intro (pk_in 5 8 (by omega)) (br_f (show ¬ a4 5 = 2 by rw [h4]; decide) (br_t (by decide) (And.intro (pk_in 5 8 (by omega)) (tj_setRow (k := 8) (w := 7) (show (6 : Int32) + 2 * a4 5 = nI 8 by rw [h4]; decide) (by omega) (by omega) (g2 8 (by omega) (by omega)) (nm_r (e' := 2) (by decide) ?_)))))
  refine br_f (by decide) (br_t (by decide) (nm_r (e' := 3) (by decide) ?_))
  refine br_f (by decide) (br_t (by decide) (nm_r (e' := 4) (by decide) ?_))
  refine br_t (by decide) (H _ (fun j hj => ?_) ?_ pk_uLs)
  · rw [pk_uLn (by omega)]
    exact g1 j hj
  · rw [pk_uLn (by decide), g2 6 (by omega) (by omega)]
    rfl
theorem tj_freeze1 {post : St2 → Prop} {s : Nat} (k : tj_K s a3 a4 a5 a6) (H : ∀ b1 : Nat → Int64, (∀ j, j < 6 → b1 j = a1 j) → b1 6 = tj_wd 1 1 → b1 8 = tj_wd 0 0 → post (fl, fq, fi, fs, fo, fa, fb, ft, fn, fk, b1, a2, a3, a4, a5, a6, a7, a8, a9, a10, a11, a12, a13, a14, a15, a16, a17, a18, a19, a20, a21, a22, a23, a24, a25)) : wpX_freeze post (fl, fq, fi, fs, fo, fa, fb, ft, fn, fk, a1, a2, a3, a4, a5, a6, a7, a8, a9, a10, a11, a12, a13, a14, a15, a16, a17, a18, a19, a20, a21, a22, a23, a24, a25) 1 1 := by
  have h4 : a4 4 = 0 := k.2.1
  have h12 : a5 12 = 0 := k.2.2.2.1
  have h13 : a5 13 = 1 := k.2.2.2.2.1
  refine tj_fr3 (fun c1 g1 g2 => Exists.intro 5 ?_)
  refine br_f (by decide) (br_f (by decide) (nm_r (e' := 4) (by decide) (Exists.intro 3 ?_)))
  refine And.intro (pk_in 4 8 (by omega)) (br_f (show ¬ a4 4 = 2 by rw [h4]; decide) (br_f (by decide) (And.intro (pk_in 12 24 (by omega)) (nm_r (e' := 0) (show (5 : Int32) * 0 + a5 12 = 0 by rw [h12]; decide) (nm_r (e' := 1) (by decide) ?_)))))
  refine And.intro (pk_in 4 8 (by omega)) (br_f (show ¬ a4 4 = 2 by rw [h4]; decide) (br_f (by decide) (And.intro (pk_in 13 24 (by omega)) (nm_r (e' := nI 1) (show (5 : Int32) * 0 + a5 13 = nI 1 by rw [h13]; decide) (nm_r (e' := 2) (by decide) ?_)))))
  refine And.intro (pk_in 4 8 (by omega)) (br_f (show ¬ a4 4 = 2 by rw [h4]; decide) (br_t (by decide) (And.intro (pk_in 4 8 (by omega)) (tj_setRow (k := 6) (w := 1) (show (6 : Int32) + 2 * a4 4 = nI 6 by rw [h4]; decide) (by omega) (by omega) (g2 6 (by omega) (by omega)) (nm_r (e' := 1) (by decide) ?_)))))
  refine br_f (by decide) (br_t (by decide) (nm_r (e' := 2) (by decide) ?_))
  refine br_f (by decide) (br_t (by decide) (nm_r (e' := 3) (by decide) ?_))
  refine br_f (by decide) (br_t (by decide) (nm_r (e' := 4) (by decide) ?_))
  refine br_t (by decide) (H _ (fun j hj => ?_) pk_uLs ?_)
  · rw [pk_uLn (by omega)]
    exact g1 j hj
  · rw [pk_uLn (by decide), g2 8 (by omega) (by omega)]
    rfl
theorem tj_as14 {post : Int32 → St2 → Prop} {s ans : Nat} (hs : s < 8) (h6 : a6 1 = nI s) (hA : tj_A 0 ans a10) (H : post 0 (fl, fq, fi, fs, fo, fa, fb, ft, fn, fk, a1, a2, a3, a4, a5, a6, a7, a8, a9, a10, a11, a12, a13, a14, a15, a16, a17, a18, a19, a20, a21, a22, a23, a24, a25)) : ∃ m, wX_answersItself_14 post 1 fl fq fi fs fo fa fb ft fn fk a1 a2 a3 a4 a5 a6 a7 a8 a9 a10 a11 a12 a13 a14 a15 a16 a17 a18 a19 a20 a21 a22 a23 a24 a25 m 0 0 := by
  refine pk_loop (fun m v c => wX_answersItself_14 post 1 fl fq fi fs fo fa fb ft fn fk a1 a2 a3 a4 a5 a6 a7 a8 a9 a10 a11 a12 a13 a14 a15 a16 a17 a18 a19 a20 a21 a22 a23 a24 a25 m (nI c) (nI v)) (fun v c => c < 5 ^ v) 5 0 0 (by omega) (by decide) ?_ ?_
  · intro m c hI
    have hc : c < 3125 := hI
    exact pk_le 5 5 (fun _ => tj_isIn hA (by omega) (fun h => absurd h.1 (by decide)) (fun _ => And.intro tj_nb0 H)) (fun z => absurd z (by omega))
  · intro m v c hv hI hW
    have e6 : ((a6 (1 : Int32).toNatClampNeg >>> (nI v &&& 31)) &&& 1) = 0 ↔ s / 2 ^ v % 2 = 0 := by
      rw [show (1 : Int32).toNatClampNeg = 1 from rfl, h6]
      exact tj_bit s hs v hv
    have hp5 : 5 ^ (v + 1) = 5 ^ v * 5 := Nat.pow_succ 5 v
    refine pk_le 5 v (fun z => absurd z (by omega)) (fun _ => And.intro (pk_in 1 2 (by omega)) (ek_if e6 (fun z => nm_r (nI_1 v) (hW c (by rw [hp5]; omega))) (fun z => nm_r (e' := nI (5 * c + v)) ?_ (nm_r (nI_1 v) (hW (5 * c + v) (by rw [hp5]; omega))))))
    rw [show (5 : Int32) = nI 5 from rfl, pk_mul, nI_add]
theorem tj_self {post : Int32 → St2 → Prop} {p q s n0 n1 x y : Nat} (k : tj_K s a3 a4 a5 a6) (hs : s < 8) (hx : x < 25) (hy : y < 25) (hn0 : n0 ≤ 1) (hn1 : n1 ≤ 1) (hP : tj_P p q s (2, fq, fi, fs, fo, fa, fb, ft, fn, fk, a1, a2, a3, a4, a5, a6, a7, a8, a9, a10, a11, a12, a13, a14, a15, a16, a17, a18, a19, a20, a21, a22, a23, a24, a25)) (hb0 : a1 6 = tj_wd n0 x) (hb1 : a1 8 = tj_wd n1 y) (hf : tj_fd x y n0 n1 = 0)
    (H : ∀ u', tj_P p q s u' → post 0 u') : wpX_answersItself post (2, fq, fi, fs, fo, fa, fb, ft, fn, fk, a1, a2, a3, a4, a5, a6, a7, a8, a9, a10, a11, a12, a13, a14, a15, a16, a17, a18, a19, a20, a21, a22, a23, a24, a25) 1 3 := by
  unfold wpX_answersItself
  refine tj_work (f := 6) k hs hx hy (by omega) hn0 hn1 hb0 hb1 (fun ga gn gk b10 b15 b18 b19 b20 b21 b22 b23 b24 b25 b7 b8 b9 h1 h2 => ?_)
  rw [hf] at h2
  exact tj_as14 hs k.2.2.2.2.2.2.2.2.2 h2 (H _ hP)
/-- the loop of smallest, with the two atoms kept, at atom x4 -/
def tj_sm (post : Int32 → St2 → Prop) (m : Nat) (x4 : Int32) (u : St2) : Prop := match u with
  | (fl, fq, fi, fs, fo, fa, fb, ft, fn, fk, a1, a2, a3, a4, a5, a6, a7, a8, a9, a10, a11, a12, a13, a14, a15, a16, a17, a18, a19, a20, a21, a22, a23, a24, a25) => wX_smallest_37 post 1 m 3 2 x4 fl fq fi fs fo fa fb ft fn fk a1 a2 a3 a4 a5 a6 a7 a8 a9 a10 a11 a12 a13 a14 a15 a16 a17 a18 a19 a20 a21 a22 a23 a24 a25
theorem tj_sm0 {post : Int32 → St2 → Prop} {p q s m : Nat} {u : St2} (hs : s < 8) (hP : tj_P p q s u) (H : ∀ u', tj_P p q s u' → tj_sm post m 1 u') : tj_sm post (m + 1) 0 u := by
  obtain ⟨fl, fq, fi, fs, fo, fa, fb, ft, fn, fk, a1, a2, a3, a4, a5, a6, a7, a8, a9, a10, a11, a12, a13, a14, a15, a16, a17, a18, a19, a20, a21, a22, a23, a24, a25⟩ := u
  have hP0 := hP
  obtain ⟨h2, k, b0, b1, z4, z5⟩ := hP
  subst h2
  have k3 : a3 1 = 2 := k.1
  refine And.intro (pk_in 1 2 (by omega)) (br_f (show ¬ a3 1 ≤ 0 by rw [k3]; decide) (nm_r (e' := 2) (by decide) (tj_isWhole2 k (br_f (by decide) ?_) (br_t rfl (nm_r (e' := 1) (by decide) (H _ hP0))))))
  refine tj_freeze2 k (fun c1 g1 g2 g3 => ?_)
  refine tj_self (p := p) (q := q) (n0 := 0) (n1 := 1) (x := 0) (y := 7) k hs (by omega) (by omega) (by omega) (by omega) ⟨rfl, k, (g1 0 (by omega)).trans b0, (g1 2 (by omega)).trans b1, (g1 4 (by omega)).trans z4, (g1 5 (by omega)).trans z5⟩ g2 g3 (by decide) (fun u' hP' => ?_)
  obtain ⟨fl, fq, fi, fs, fo, fa, fb, ft, fn, fk, a1, a2, a3, a4, a5, a6, a7, a8, a9, a10, a11, a12, a13, a14, a15, a16, a17, a18, a19, a20, a21, a22, a23, a24, a25⟩ := u'
  exact br_t rfl (nm_r (e' := 1) (by decide) (H _ hP'))
theorem tj_sm1 {post : Int32 → St2 → Prop} {p q s m : Nat} {u : St2} (hs : s < 8) (hP : tj_P p q s u) (H : ∀ u', tj_P p q s u' → tj_sm post m 2 u') : tj_sm post (m + 1) 1 u := by
  obtain ⟨fl, fq, fi, fs, fo, fa, fb, ft, fn, fk, a1, a2, a3, a4, a5, a6, a7, a8, a9, a10, a11, a12, a13, a14, a15, a16, a17, a18, a19, a20, a21, a22, a23, a24, a25⟩ := u
  have hP0 := hP
  obtain ⟨h2, k, b0, b1, z4, z5⟩ := hP
  subst h2
  have k3 : a3 1 = 2 := k.1
  refine And.intro (pk_in 1 2 (by omega)) (br_f (show ¬ a3 1 ≤ 1 by rw [k3]; decide) (nm_r (e' := 1) (by decide) (tj_isWhole1 k (br_f (by decide) ?_) (br_t rfl (nm_r (e' := 2) (by decide) (H _ hP0))))))
  refine tj_freeze1 k (fun c1 g1 g2 g3 => ?_)
  refine tj_self (p := p) (q := q) (n0 := 1) (n1 := 0) (x := 1) (y := 0) k hs (by omega) (by omega) (by omega) (by omega) ⟨rfl, k, (g1 0 (by omega)).trans b0, (g1 2 (by omega)).trans b1, (g1 4 (by omega)).trans z4, (g1 5 (by omega)).trans z5⟩ g2 g3 (by decide) (fun u' hP' => ?_)
  obtain ⟨fl, fq, fi, fs, fo, fa, fb, ft, fn, fk, a1, a2, a3, a4, a5, a6, a7, a8, a9, a10, a11, a12, a13, a14, a15, a16, a17, a18, a19, a20, a21, a22, a23, a24, a25⟩ := u'
  exact br_t rfl (nm_r (e' := 2) (by decide) (H _ hP'))
theorem tj_sm2 {post : Int32 → St2 → Prop} {p q s m : Nat} {u : St2} (hP : tj_P p q s u) (H : post 2 u) : tj_sm post (m + 1) 2 u := by
  obtain ⟨fl, fq, fi, fs, fo, fa, fb, ft, fn, fk, a1, a2, a3, a4, a5, a6, a7, a8, a9, a10, a11, a12, a13, a14, a15, a16, a17, a18, a19, a20, a21, a22, a23, a24, a25⟩ := u
  obtain ⟨h2, k, b0, b1, z4, z5⟩ := hP
  have k3 : a3 1 = 2 := k.1
  exact And.intro (pk_in 1 2 (by omega)) (br_t (show a3 1 ≤ 2 by rw [k3]; decide) H)
theorem tj_smallest {post : Int32 → St2 → Prop} {p q s : Nat} {u : St2} (hs : s < 8) (hP : tj_P p q s u) (H : ∀ u', tj_P p q s u' → post 2 u') : wpX_smallest post u 1 := by
  have r : tj_sm post 3 0 u := tj_sm0 hs hP (fun u1 h1 => tj_sm1 hs h1 (fun u2 h2 => tj_sm2 h2 (H u2 h2)))
  obtain ⟨fl, fq, fi, fs, fo, fa, fb, ft, fn, fk, a1, a2, a3, a4, a5, a6, a7, a8, a9, a10, a11, a12, a13, a14, a15, a16, a17, a18, a19, a20, a21, a22, a23, a24, a25⟩ := u
  have k : tj_K s a3 a4 a5 a6 := hP.2.1
  have k3 : a3 1 = 2 := k.1
  unfold wpX_smallest
  exact tj_isQ (br_f (by decide) (tj_whole k hs (br_f (by decide) (tj_all k (And.intro (pk_in 1 2 (by omega)) (nm_r (e' := 2) k3 (Exists.intro 3 r)))))))
end
end
section
section
variable {fl fq fi fs fo fa fb ft fn fk : Int32} {a1 a10 a11 a12 : Nat → Int64} {a2 a3 a4 a5 a6 a7 a8 a9 a13 a14 a15 a16 a17 a18 a19 a20 a21 a22 a23 a24 a25 : Nat → Int32}
theorem tj_l371 {post : Int32 → St0 → Prop} {mc ms kc ks p q s : Nat} {z0 z1 : Int32} (Hp : post 1 ()) (hs : s < 8) (hP : tj_P p q s (fl, fq, fi, fs, fo, fa, fb, ft, fn, fk, a1, a2, a3, a4, a5, a6, a7, a8, a9, a10, a11, a12, a13, a14, a15, a16, a17, a18, a19, a20, a21, a22, a23, a24, a25)) (hz : z1 = z0) : wL_lawOf_371 post mc ms z0 z1 kc ks fl fq fi fs fo fa fb ft fn fk a1 a2 a3 a4 a5 a6 a7 a8 a9 a10 a11 a12 a13 a14 a15 a16 a17 a18 a19 a20 a21 a22 a23 a24 a25 := by
  refine br_t hz (tj_tree hP (fun u hP' => ?_))
  obtain ⟨fl, fq, fi, fs, fo, fa, fb, ft, fn, fk, a1, a2, a3, a4, a5, a6, a7, a8, a9, a10, a11, a12, a13, a14, a15, a16, a17, a18, a19, a20, a21, a22, a23, a24, a25⟩ := u
  refine br_t rfl (tj_smallest hs hP' (fun u' hP'' => ?_))
  obtain ⟨fl, fq, fi, fs, fo, fa, fb, ft, fn, fk, a1, a2, a3, a4, a5, a6, a7, a8, a9, a10, a11, a12, a13, a14, a15, a16, a17, a18, a19, a20, a21, a22, a23, a24, a25⟩ := u'
  exact br_t rfl Hp
theorem tj_l350 {post : Int32 → St0 → Prop} {mc ms kc ks p q s : Nat} {z0 z1 : Int32} (Hp : post 1 ()) (hs : s < 8) (hp : p < 25) (hq : q < 25) (hP : tj_P p q s (fl, fq, fi, fs, fo, fa, fb, ft, fn, fk, a1, a2, a3, a4, a5, a6, a7, a8, a9, a10, a11, a12, a13, a14, a15, a16, a17, a18, a19, a20, a21, a22, a23, a24, a25)) (hz : z1 = z0) : wL_lawOf_350 post mc ms (nI (tj_fd p q 1 1)) z0 z1 kc ks fl fq fi fs fo fa fb ft fn fk a1 a2 a3 a4 a5 a6 a7 a8 a9 a10 a11 a12 a13 a14 a15 a16 a17 a18 a19 a20 a21 a22 a23 a24 a25 := by
  have hf := tj_fd_le (p := p) (q := q) (n0 := 1) (n1 := 1)
  refine br_t hz (tj_idle hs hp hq hP (fun u hP' => ?_))
  obtain ⟨fl, fq, fi, fs, fo, fa, fb, ft, fn, fk, a1, a2, a3, a4, a5, a6, a7, a8, a9, a10, a11, a12, a13, a14, a15, a16, a17, a18, a19, a20, a21, a22, a23, a24, a25⟩ := u
  refine pk_eq (tj_fd p q 1 1) 0 (fun z => tj_l371 Hp hs hP' ?_) (fun z => tj_l371 Hp hs hP' ?_)
  · rw [if_neg (by omega)]
    rfl
  · rw [if_pos (by omega)]
    rfl
/-- what the law wants of often -/
def tj_E (x4 x8 x10 x11 x12 : Int32) : Int32 := if x12 = 0 then -1 else if x11 = 0 then -3 else if x8 = 0 then 0 else if x4 = x10 then 1 else 0
theorem tj_E1 {x4 x8 x10 : Int32} : tj_E x4 x8 x10 1 1 = if x8 = 0 then 0 else if x4 = x10 then 1 else 0 := (if_neg (show ¬ (1 : Int32) = 0 by decide)).trans (if_neg (show ¬ (1 : Int32) = 0 by decide))
theorem tj_l300 {post : Int32 → St0 → Prop} {mc ms kc ks p q s : Nat} {x3 x4 x10 x11 x12 z0 z1 : Int32} (Hp : post 1 ()) (hs : s < 8) (hp : p < 25) (hq : q < 25) (hP : tj_P p q s (fl, fq, fi, fs, fo, fa, fb, ft, fn, fk, a1, a2, a3, a4, a5, a6, a7, a8, a9, a10, a11, a12, a13, a14, a15, a16, a17, a18, a19, a20, a21, a22, a23, a24, a25)) (hz : z1 = z0) (hE : tj_of p q s x3 x4 = tj_E x4 (nI (tj_fd p q 1 1)) x10 x11 x12) : wL_lawOf_300 post mc ms x3 x4 (nI (tj_fd p q 1 1)) x10 x11 x12 z0 z1 kc ks fl fq fi fs fo fa fb ft fn fk a1 a2 a3 a4 a5 a6 a7 a8 a9 a10 a11 a12 a13 a14 a15 a16 a17 a18 a19 a20 a21 a22 a23 a24 a25 := by
  refine br_t hz (tj_often hs hp hq hP (fun u hP' => ?_))
  obtain ⟨fl, fq, fi, fs, fo, fa, fb, ft, fn, fk, a1, a2, a3, a4, a5, a6, a7, a8, a9, a10, a11, a12, a13, a14, a15, a16, a17, a18, a19, a20, a21, a22, a23, a24, a25⟩ := u
  refine br_c (fun h1 => tj_l350 Hp hs hp hq hP' (hE.trans (if_pos h1))) (fun h1 => br_c (fun h2 => tj_l350 Hp hs hp hq hP' (hE.trans ((if_neg h1).trans (if_pos h2)))) (fun h2 => br_c (fun h3 => tj_l350 Hp hs hp hq hP' (hE.trans ((if_neg h1).trans ((if_neg h2).trans (if_pos h3))))) (fun h3 => br_c (fun h4 => tj_l350 Hp hs hp hq hP' (hE.trans ((if_neg h1).trans ((if_neg h2).trans ((if_neg h3).trans (if_pos h4)))))) (fun h4 => tj_l350 Hp hs hp hq hP' (hE.trans ((if_neg h1).trans ((if_neg h2).trans ((if_neg h3).trans (if_neg h4)))))))))
theorem tj_l276 {post : Int32 → St0 → Prop} {mc ms kc ks p q s : Nat} {x3 x4 x10 x11 x12 z0 z1 : Int32} (Hp : post 1 ()) (hs : s < 8) (hp : p < 25) (hq : q < 25) (hP : tj_P p q s (fl, fq, fi, fs, fo, fa, fb, ft, fn, fk, a1, a2, a3, a4, a5, a6, a7, a8, a9, a10, a11, a12, a13, a14, a15, a16, a17, a18, a19, a20, a21, a22, a23, a24, a25)) (hz : z1 = z0) (hE : tj_of p q s x3 x4 = tj_E x4 (nI (tj_fd p q 1 1)) x10 x11 x12) : wL_lawOf_276 post mc ms x3 x4 (nI (tj_fd p q 1 1)) (nI (tj_ans p q s)) x10 x11 x12 z0 z1 kc ks fl fq fi fs fo fa fb ft fn fk a1 a2 a3 a4 a5 a6 a7 a8 a9 a10 a11 a12 a13 a14 a15 a16 a17 a18 a19 a20 a21 a22 a23 a24 a25 := by
  have hf := tj_fd_le (p := p) (q := q) (n0 := 1) (n1 := 1)
  refine br_t hz (tj_answer hs hp hq hP (fun u hP' => ?_))
  obtain ⟨fl, fq, fi, fs, fo, fa, fb, ft, fn, fk, a1, a2, a3, a4, a5, a6, a7, a8, a9, a10, a11, a12, a13, a14, a15, a16, a17, a18, a19, a20, a21, a22, a23, a24, a25⟩ := u
  exact ⟨fun h => pk_eq (tj_fd p q 1 1) 0 (fun z => absurd z (by omega)) (fun _ => tj_l300 Hp hs hp hq hP' rfl hE), fun h => pk_eq (tj_fd p q 1 1) 0 (fun _ => tj_l300 Hp hs hp hq hP' rfl hE) (fun z => absurd z (by omega))⟩
theorem tj_l179 {post : Int32 → St0 → Prop} {p q s : Nat} {x3 x4 x10 x11 z0 : Int32} (Hp : post 1 ()) (hs : s < 8) (hp : p < 25) (hq : q < 25) (hE : tj_of p q s x3 x4 = tj_E x4 (nI (tj_fd p q 1 1)) x10 x11 z0) : wL_lawOf_179 post 26 714 x3 x4 (nI p) (nI q) (nI s) (nI (tj_fd p q 1 1)) (nI (tj_ans p q s)) x10 x11 z0 0 0 := by
  have hf := tj_fd_le (p := p) (q := q) (n0 := 1) (n1 := 1)
  refine And.intro (by omega) (And.intro (by omega) (Exists.intro 25 (Exists.intro 679 (And.intro (by omega) (And.intro (by omega) ?_)))))
  unfold wpX_init
  refine ⟨by omega, by omega, by omega, by omega, by omega, by omega, by omega, by omega, by omega, by omega, by omega, by omega, by omega, by omega, by omega, by omega, by omega, by omega, by omega, by omega, by omega, by omega, by omega, by omega, by omega, by omega, by omega, by omega, by omega, by omega, by omega, by omega, by omega, by omega, by omega, by omega, by omega, by omega, by omega, by omega, by omega, by omega, by omega, by omega, by omega, by omega, by omega, by omega, by omega, by omega, ?_⟩
  refine tj_add (r := 0) (by omega) hp rfl rfl (fun b2 g2 => br_t rfl ?_)
  refine tj_add (r := 1) (by omega) hq (pk_uLn (by decide)) (g2 1 (by decide)) (fun c2 h2 => br_t rfl ?_)
  refine tj_atom (r := 0) (w := 1) (by omega) (by omega) rfl (fun y b3 b4 b5 ey e3 e4 f4 e50 e51 e52 f5 => br_t ey ?_)
  refine tj_atom (r := 1) (w := 7) (by omega) (by omega) e3 (fun y' c3 c4 c5 ey' e3' e4' f4' e50' e51' e52' f5' => br_t ey' ?_)
  refine tj_ask hs (fun b6 e6 => br_f (by decide) ?_)
  have hK : tj_K s c3 c4 c5 b6 := ⟨e3', (f4' 4 (by decide)).trans e4, e4', (f5' 12 (by decide)).trans e50, (f5' 13 (by decide)).trans e51, (f5' 14 (by decide)).trans e52, e50', e51', e52', e6⟩
  refine tj_count (p := p) (q := q) hs hp hq ⟨rfl, hK, (pk_uLn (by decide)).trans pk_uLs, pk_uLs, (pk_uLn (by decide)).trans (pk_uLn (by decide)), (pk_uLn (by decide)).trans (pk_uLn (by decide))⟩ (fun u hP => ?_)
  obtain ⟨fl, fq, fi, fs, fo, fa, fb, ft, fn, fk, a1, a2, a3, a4, a5, a6, a7, a8, a9, a10, a11, a12, a13, a14, a15, a16, a17, a18, a19, a20, a21, a22, a23, a24, a25⟩ := u
  refine pk_eq (tj_fd p q 1 1) 0 (fun z => tj_l276 Hp hs hp hq hP ?_ hE) (fun z => tj_l276 Hp hs hp hq hP ?_ hE)
  · rw [z]
    rfl
  · rw [show tj_fd p q 1 1 = 1 by omega]
    rfl
theorem tj_l152 {post : Int32 → St0 → Prop} {p q s : Nat} {x3 x4 x10 x11 : Int32} (Hp : post 1 ()) (hs : s < 8) (hp : p < 25) (hq : q < 25) (hE : ∀ v x : Nat, v < 5 → x < 5 → x3 = nI v → x4 = nI x → tj_of p q s x3 x4 = tj_E x4 (nI (tj_fd p q 1 1)) x10 x11 1) : wL_lawOf_152 post 26 714 x3 x4 (nI p) (nI q) (nI s) (nI (tj_fd p q 1 1)) (nI (tj_ans p q s)) x10 x11 0 0 := by
  have HB : (x3 < 0 ∨ 5 ≤ x3 ∨ x4 < 0 ∨ 5 ≤ x4) → wL_lawOf_179 post 26 714 x3 x4 (nI p) (nI q) (nI s) (nI (tj_fd p q 1 1)) (nI (tj_ans p q s)) x10 x11 0 0 0 := fun h => tj_l179 Hp hs hp hq ((if_pos h).trans (if_pos rfl).symm)
  have h45 : ∀ {x : Int32}, ¬ x < 0 → 4 < x → 5 ≤ x := by
    intro x h0 h
    obtain ⟨j, hj, rfl⟩ := nI_of h0
    exact nI_le ((nI_ltI (a := 4) (by decide) hj).mp h) hj
  have h45' : ∀ {x : Int32}, ¬ x < 0 → ¬ 4 < x → ∃ j, j < 5 ∧ x = nI j := by
    intro x h0 h
    obtain ⟨j, hj, rfl⟩ := nI_of h0
    refine ⟨j, ?_, rfl⟩
    have := mt (nI_ltI (a := 4) (by decide) hj).mpr h
    omega
  refine br_c (fun h1 => HB (Or.inl h1)) (fun h1 => br_c (fun h2 => HB (Or.inr (Or.inl (h45 h1 h2)))) (fun h2 => br_c (fun h3 => HB (Or.inr (Or.inr (Or.inl h3)))) (fun h3 => br_c (fun h4 => HB (Or.inr (Or.inr (Or.inr (h45 h3 h4))))) (fun h4 => ?_))))
  obtain ⟨v, hv, ev⟩ := h45' h1 h2
  obtain ⟨x, hx, ex⟩ := h45' h3 h4
  exact tj_l179 Hp hs hp hq (hE v x hv hx ev ex)
theorem tj_bitE : ∀ s, s < 8 → ∀ v, v < 5 → ((nI s >>> (nI v &&& 31)) &&& 1) = nI (s / 2 ^ v % 2) := by decide +kernel
theorem tj_ofG {p q s v x : Nat} (hs : s < 8) (hv : v < 5) (hx : x < 5) : tj_of p q s (nI v) (nI x) = if s / 2 ^ v % 2 = 0 then -3 else if tj_fd p q 1 1 = 1 ∧ nI (tj_vv p q v) = nI x then 1 else 0 := by
  have hn : ¬ (nI v < 0 ∨ 5 ≤ nI v ∨ nI x < 0 ∨ 5 ≤ nI x) := by
    intro h
    rcases h with h | h | h | h
    · exact nI_pos (by omega) h
    · exact nI_ge (b := 5) hv (by decide) h
    · exact nI_pos (by omega) h
    · exact nI_ge (b := 5) hx (by decide) h
  unfold tj_of
  rw [if_neg hn, nI_clamp (by omega)]
  by_cases h : s / 2 ^ v % 2 = 0
  · rw [if_pos h, if_pos ((tj_bit s hs v hv).mpr h)]
  · rw [if_neg h, if_neg (mt (tj_bit s hs v hv).mp h)]
theorem tj_l126 {post : Int32 → St0 → Prop} {p q s : Nat} {x3 x4 x10 : Int32} (Hp : post 1 ()) (hs : s < 8) (hp : p < 25) (hq : q < 25) (hV : ∀ v : Nat, v < 3 → x3 = nI v → x10 = nI (tj_vv p q v)) : wL_lawOf_126 post 26 714 x3 x4 (nI p) (nI q) (nI s) (nI (tj_fd p q 1 1)) (nI (tj_ans p q s)) x10 0 0 := by
  have hf := tj_fd_le (p := p) (q := q) (n0 := 1) (n1 := 1)
  have H0 : (∀ v x : Nat, v < 5 → x < 5 → x3 = nI v → x4 = nI x → s / 2 ^ v % 2 = 0) → wL_lawOf_152 post 26 714 x3 x4 (nI p) (nI q) (nI s) (nI (tj_fd p q 1 1)) (nI (tj_ans p q s)) x10 0 0 0 := by
    intro h
    refine tj_l152 Hp hs hp hq (fun v x hv hx ev ex => ?_)
    rw [ev, ex, tj_ofG hs hv hx, if_pos (h v x hv hx ev ex)]
    rfl
  refine br_c (fun h1 => H0 (fun v x hv hx ev ex => absurd h1 (by rw [ev]; exact nI_pos (by omega)))) (fun h1 => br_c (fun h2 => H0 (fun v x hv hx ev ex => ?_)) (fun h2 => br_c (fun h3 => ?_) (fun h3 => H0 (fun v x hv hx ev ex => ?_))))
  · rw [ev] at h2
    have h3 : 2 < v := (nI_ltI (a := 2) (by decide) (by omega)).mp h2
    exact (show ∀ s, s < 8 → ∀ v, v < 5 → 2 < v → s / 2 ^ v % 2 = 0 by decide +kernel) s hs v hv h3
  · refine tj_l152 Hp hs hp hq (fun v x hv hx ev ex => ?_)
    have hv3 : v < 3 := by
      rw [ev] at h2
      have := mt (nI_ltI (a := 2) (b := v) (by decide) (by omega)).mpr h2
      omega
    have h10 := hV v hv3 ev
    have h5 := tj_vv5 (v := v) hp hq
    rw [ev, tj_bitE s hs v hv] at h3
    have hb : s / 2 ^ v % 2 = 1 := (nI_eq (b := 1) (by omega) (by decide)).mp h3
    rw [ev, ex, tj_ofG hs hv hx, if_neg (by omega), h10]
    rw [tj_E1]
    have hc : tj_fd p q 1 1 = 0 ∨ tj_fd p q 1 1 = 1 := by omega
    rcases hc with hc | hc
    · rw [hc]
      exact (if_neg (fun g => absurd g.1 (by decide))).trans (if_pos rfl).symm
    · rw [hc]
      by_cases e : nI x = nI (tj_vv p q v)
      · exact (if_pos ⟨rfl, e.symm⟩).trans ((if_neg (show ¬ nI 1 = 0 by decide)).trans (if_pos e)).symm
      · exact (if_neg (fun g => e g.2.symm)).trans ((if_neg (show ¬ nI 1 = 0 by decide)).trans (if_neg e)).symm
  · rw [ev, tj_bitE s hs v hv] at h3
    by_cases hb : s / 2 ^ v % 2 = 0
    · exact hb
    · exact absurd (by rw [show s / 2 ^ v % 2 = 1 by omega]; rfl) h3
theorem tj_l99 {post : Int32 → St0 → Prop} {p q s : Nat} {x3 x4 : Int32} (Hp : post 1 ()) (hs : s < 8) (hp : p < 25) (hq : q < 25) : wL_lawOf_99 post 26 714 x3 x4 (nI p) (nI q) (nI s) (nI (tj_fd p q 1 1)) (nI (tj_ans p q s)) 0 0 := by
  have ne : ∀ {a b : Nat}, a < 3 → b < 3 → nI a = nI b → a = b := fun ha hb h => (nI_eq (by omega) (by omega)).mp h
  have e1 : nI p / 5 = nI (p / 5) := pk_div (d := 5) (by omega) (by decide) (by decide)
  have e2 : nI p - nI p / 5 * 5 = nI (p % 5) := pk_rem (d := 5) (by omega) (by decide) (by decide)
  have e3 : nI q - nI q / 5 * 5 = nI (q % 5) := pk_rem (d := 5) (by omega) (by decide) (by decide)
  refine br_c (fun h1 => And.intro (by decide) (tj_l126 Hp hs hp hq (fun v hv ev => ?_))) (fun h1 => br_c (fun h2 => And.intro (by decide) (tj_l126 Hp hs hp hq (fun v hv ev => ?_))) (fun h2 => And.intro (by decide) (tj_l126 Hp hs hp hq (fun v hv ev => ?_))))
  · have : v = 0 := ne hv (by omega) (ev.symm.trans h1)
    rw [this, e1]
    rfl
  · have : v = 1 := ne hv (by omega) (ev.symm.trans h2)
    rw [this, e2]
    rfl
  · have h0 : v ≠ 0 := fun z => h1 (by rw [ev, z]; rfl)
    have h3 : v ≠ 1 := fun z => h2 (by rw [ev, z]; rfl)
    have : v = 2 := by omega
    rw [this, e3]
    rfl
theorem tj_q1 : ∀ s, s < 8 → ((nI s &&& 1) = 1 ↔ s % 2 = 1) := by decide +kernel
theorem tj_q2 : ∀ s, s < 8 → ((nI s &&& 2) = 2 ↔ s / 2 % 2 = 1) := by decide +kernel
theorem tj_q4 : ∀ s, s < 8 → ((nI s &&& 4) = 4 ↔ s / 4 % 2 = 1) := by decide +kernel
theorem tj_l80 {post : Int32 → St0 → Prop} {p q s : Nat} {x3 x4 : Int32} (Hp : post 1 ()) (hs : s < 8) (hp : p < 25) (hq : q < 25) : wL_lawOf_80 post 26 714 x3 x4 (nI p) (nI q) (nI s) (nI (tj_fd p q 1 1)) (nI (tj_r1 p s)) 0 0 := by
  have r := tj_l99 (post := post) (x3 := x3) (x4 := x4) Hp hs hp hq
  have e3 : nI q - nI q / 5 * 5 = nI (q % 5) := pk_rem (d := 5) (by omega) (by decide) (by decide)
  refine ek_if (tj_q4 s hs) (fun z => And.intro (by decide) (nm_r (e' := nI (tj_ans p q s)) ?_ r)) (fun z => ?_)
  · rw [e3, show (5 : Int32) = nI 5 from rfl, pk_mul, nI_add, show tj_ans p q s = 5 * tj_r1 p s + q % 5 from if_pos z]
  · rw [show tj_ans p q s = tj_r1 p s from if_neg z] at r
    exact r
theorem tj_l61 {post : Int32 → St0 → Prop} {p q s : Nat} {x3 x4 : Int32} (Hp : post 1 ()) (hs : s < 8) (hp : p < 25) (hq : q < 25) : wL_lawOf_61 post 26 714 x3 x4 (nI p) (nI q) (nI s) (nI (tj_fd p q 1 1)) (nI (tj_r0 p s)) 0 0 := by
  have r := tj_l80 (post := post) (x3 := x3) (x4 := x4) Hp hs hp hq
  have e3 : nI p - nI p / 5 * 5 = nI (p % 5) := pk_rem (d := 5) (by omega) (by decide) (by decide)
  refine ek_if (tj_q2 s hs) (fun z => And.intro (by decide) (nm_r (e' := nI (tj_r1 p s)) ?_ r)) (fun z => ?_)
  · rw [e3, show (5 : Int32) = nI 5 from rfl, pk_mul, nI_add, show tj_r1 p s = 5 * tj_r0 p s + p % 5 from if_pos z]
  · rw [show tj_r1 p s = tj_r0 p s from if_neg z] at r
    exact r
theorem tj_l42 {post : Int32 → St0 → Prop} {p q s : Nat} {x3 x4 : Int32} (Hp : post 1 ()) (hs : s < 8) (hp : p < 25) (hq : q < 25) : wL_lawOf_42 post 26 714 x3 x4 (nI p) (nI q) (nI s) (nI (tj_fd p q 1 1)) 0 0 := by
  have r := tj_l61 (post := post) (x3 := x3) (x4 := x4) Hp hs hp hq
  have e1 : nI p / 5 = nI (p / 5) := pk_div (d := 5) (by omega) (by decide) (by decide)
  refine ek_if (tj_q1 s hs) (fun z => And.intro (by decide) (nm_r (e' := nI (tj_r0 p s)) ?_ r)) (fun z => ?_)
  · rw [e1, show tj_r0 p s = p / 5 from if_pos z]
  · rw [show tj_r0 p s = 0 from if_neg z] at r
    exact r
theorem tj_lawOf {post : Int32 → St0 → Prop} {x0 x1 x2 x3 x4 : Int32} (Hp : post 1 ()) : wpL_lawOf post 26 714 () x0 x1 x2 x3 x4 := by
  obtain ⟨j0, hj0, e0⟩ := pk_andE x0 (m := 255) 8 (by decide)
  obtain ⟨j1, hj1, e1⟩ := pk_andE x1 (m := 255) 8 (by decide)
  obtain ⟨s, hs, e2⟩ := pk_andE x2 (m := 7) 3 (by decide)
  have hp : j0 % 25 < 25 := by omega
  have hq : j1 % 25 < 25 := by omega
  have f0 : (x0 &&& 255) - (x0 &&& 255) / 25 * 25 = nI (j0 % 25) := by
    rw [e0]
    exact pk_rem (d := 25) (by omega) (by decide) (by decide)
  have f1 : (x1 &&& 255) - (x1 &&& 255) / 25 * 25 = nI (j1 % 25) := by
    rw [e1]
    exact pk_rem (d := 25) (by omega) (by decide) (by decide)
  have r := tj_l42 (post := post) (x3 := x3) (x4 := x4) Hp hs hp hq
  have g0 : nI (j0 % 25) - nI (j0 % 25) / 5 * 5 = nI (j0 % 25 % 5) := pk_rem (d := 5) (by omega) (by decide) (by decide)
  have g1 : nI (j1 % 25) / 5 = nI (j1 % 25 / 5) := pk_div (d := 5) (by omega) (by decide) (by decide)
  refine And.intro (by decide) (nm_r f0 (And.intro (by decide) (nm_r f1 (nm_r e2 (And.intro (by decide) (And.intro (by decide) (pk_eq (j0 % 25 % 5) (j1 % 25 / 5) (fun z => ?_) (fun z => ?_) g0 g1)))))))
  · rw [show tj_fd (j0 % 25) (j1 % 25) 1 1 = 1 from if_pos ⟨rfl, rfl, z⟩] at r
    exact r
  · rw [show tj_fd (j0 % 25) (j1 % 25) 1 1 = 0 from if_neg (fun g => z g.2.2)] at r
    exact r
theorem tj_cell {post : Int32 → Prop} {L i : Nat} {xs : Nat → Int32} (hL : L ≤ 5) (hi : i < 5) (H : ∀ r, post r) : wpL_cellAt post L xs () (nI i) :=
  pk_le L i (fun _ => H _) (fun z => And.intro (pk_in i L z) (H _))
end
theorem i_vc (xs : Nat → Int32) (L : Nat) (hL : L ≤ 5) : wpL_law (fun r => r = 1) L xs := by
  unfold wpL_law
  exact tj_cell (i := 0) hL (by omega) (fun r1 => tj_cell (i := 1) hL (by omega) (fun r2 => tj_cell (i := 2) hL (by omega) (fun r3 => tj_cell (i := 3) hL (by omega) (fun r4 => tj_cell (i := 4) hL (by omega) (fun r5 => Exists.intro 26 (Exists.intro 714 (And.intro (by omega) (And.intro (by omega) (tj_lawOf rfl)))))))))
end
