section
/-! Int32 by its bits (the first rows: the family 'bt' of the kit's BITS.to-paste, renamed) -/
def ac_bt (x : Int32) (i : Nat) : Bool := x.toBitVec.getLsbD i
theorem ac_ext {x y : Int32} (h : ∀ i, i < 32 → ac_bt x i = ac_bt y i) : x = y := Int32.toBitVec_inj.mp (BitVec.eq_of_getLsbD_eq (fun i hi => h i hi))
theorem ac_bor (x y : Int32) (i : Nat) : ac_bt (x ||| y) i = (ac_bt x i || ac_bt y i) := by unfold ac_bt; rw [Int32.toBitVec_or, BitVec.getLsbD_or]
theorem ac_band (x y : Int32) (i : Nat) : ac_bt (x &&& y) i = (ac_bt x i && ac_bt y i) := by unfold ac_bt; rw [Int32.toBitVec_and, BitVec.getLsbD_and]
theorem ac_bxor (x y : Int32) (i : Nat) : ac_bt (x ^^^ y) i = (ac_bt x i ^^ ac_bt y i) := by unfold ac_bt; rw [Int32.toBitVec_xor, BitVec.getLsbD_xor]
theorem ac_bm1 : ∀ i, i < 32 → ac_bt (-1) i = true := by decide +kernel
theorem ac_b0 (i : Nat) : ac_bt 0 i = false := BitVec.getLsbD_zero
theorem ac_b1 : ∀ i, i < 32 → ac_bt 1 i = decide (i = 0) := by decide +kernel
theorem ac_sl : ∀ n, n < 32 → ((nI n &&& 31).toBitVec.smod 32).toNat = n := by decide +kernel
theorem ac_bshl (n : Nat) (hn : n < 32) (x : Int32) {i : Nat} (hi : i < 32) : ac_bt (x <<< (nI n &&& 31)) i = (decide (n ≤ i) && ac_bt x (i - n)) := by
  unfold ac_bt
  rw [Int32.toBitVec_shiftLeft]
  show (x.toBitVec <<< ((nI n &&& 31).toBitVec.smod 32).toNat).getLsbD i = _
  rw [ac_sl n hn, BitVec.getLsbD_shiftLeft]
  rcases Nat.lt_or_ge i n with h | h
  · simp [h, Nat.not_le.mpr h]
  · simp [hi, h, Nat.not_lt.mpr h]
theorem ac_bshr (n : Nat) (hn : n < 32) (x : Int32) {i : Nat} (hi : i < 32) : ac_bt (x >>> (nI n &&& 31)) i = if n + i < 32 then ac_bt x (n + i) else ac_bt x 31 := by
  unfold ac_bt
  rw [Int32.toBitVec_shiftRight]
  show (x.toBitVec.sshiftRight ((nI n &&& 31).toBitVec.smod 32).toNat).getLsbD i = _
  rw [ac_sl n hn, BitVec.getLsbD_sshiftRight, BitVec.msb_eq_getLsbD_last]
  simp [hi]
theorem ac_one : ∀ i, i < 32 → ∀ j, j < 32 → ac_bt ((1 : Int32) <<< (nI i &&& 31)) j = decide (j = i) := by decide +kernel
theorem ac_tst (w : Int32) (j : Nat) (hj : j < 32) : ((w >>> (nI j &&& 31)) &&& 1) = 0 ↔ ac_bt w j = false := by
  constructor
  · intro h
    have e : ac_bt ((w >>> (nI j &&& 31)) &&& 1) 0 = false := by rw [h]; exact ac_b0 0
    rw [ac_band, ac_bshr j hj w (by omega), ac_b1 0 (by omega)] at e
    simpa [hj] using e
  · intro h
    refine ac_ext (fun i hi => ?_)
    rw [ac_band, ac_b0, ac_b1 i hi]
    by_cases e : i = 0
    · subst e
      rw [ac_bshr j hj w (by omega)]
      simp [hj, h]
    · simp [e]
theorem ac_bset (w : Int32) {i j : Nat} (hi : i < 32) (hj : j < 32) : ac_bt (w ||| ((1 : Int32) <<< (nI i &&& 31))) j = true ↔ ac_bt w j = true ∨ j = i := by
  rw [ac_bor, ac_one i hi j hj]
  simp
theorem ac_bclr (w : Int32) {i j : Nat} (hi : i < 32) (hj : j < 32) : ac_bt (w &&& (((1 : Int32) <<< (nI i &&& 31)) ^^^ (-1))) j = true ↔ ac_bt w j = true ∧ j ≠ i := by
  rw [ac_band, ac_bxor, ac_one i hi j hj, ac_bm1 j hj]
  simp
theorem ac_nz {w : Int32} (h : ¬ w = 0) : ∃ j, j < 32 ∧ ac_bt w j = true := by
  refine Classical.byContradiction (fun hn => h (ac_ext (fun i hi => ?_)))
  rw [ac_b0]
  cases e : ac_bt w i with
  | false => rfl
  | true => exact absurd ⟨i, hi, e⟩ hn
/-! subset of bits -/
def ac_sub (x y : Int32) : Prop := ∀ i, i < 32 → ac_bt x i = true → ac_bt y i = true
theorem ac_sub_rfl {x : Int32} : ac_sub x x := fun _ _ h => h
theorem ac_sub_and {x y : Int32} (h : ac_sub x y) (c : Int32) : ac_sub (x &&& c) (y &&& c) := by
  intro i hi e
  simp only [ac_band, Bool.and_eq_true] at e ⊢
  exact ⟨h i hi e.1, e.2⟩
theorem ac_sub_or {x y x' y' : Int32} (h : ac_sub x y) (h' : ac_sub x' y') : ac_sub (x ||| x') (y ||| y') := by
  intro i hi e
  simp only [ac_bor, Bool.or_eq_true] at e ⊢
  exact e.imp (h i hi) (h' i hi)
theorem ac_sub_ao {x y : Int32} (h : ac_sub x y) (c d : Int32) : ac_sub (c &&& x) (d ||| y) := by
  intro i hi e
  simp only [ac_band, ac_bor, Bool.and_eq_true, Bool.or_eq_true] at e ⊢
  exact Or.inr (h i hi e.2)
theorem ac_cnt (s : Int32) : ∃ k, k < 32 ∧ s &&& 31 = nI k &&& 31 := by
  obtain ⟨k, hk, e⟩ := pk_andE s (m := 31) 5 (by decide)
  have hk' : k < 32 := hk
  refine ⟨k, hk', ?_⟩
  rw [e]
  exact (by decide +kernel : ∀ k, k < 32 → nI k = nI k &&& 31) k hk'
theorem ac_sub_shl {x y : Int32} (h : ac_sub x y) (s : Int32) : ac_sub (x <<< (s &&& 31)) (y <<< (s &&& 31)) := by
  obtain ⟨k, hk, e⟩ := ac_cnt s
  rw [e]
  intro i hi
  rw [ac_bshl k hk x hi, ac_bshl k hk y hi]
  simp only [Bool.and_eq_true]
  exact fun z => ⟨z.1, h (i - k) (by omega) z.2⟩
theorem ac_sub_shr {x y : Int32} (h : ac_sub x y) (s : Int32) : ac_sub (x >>> (s &&& 31)) (y >>> (s &&& 31)) := by
  obtain ⟨k, hk, e⟩ := ac_cnt s
  rw [e]
  intro i hi
  rw [ac_bshr k hk x hi, ac_bshr k hk y hi]
  by_cases g : k + i < 32
  · rw [if_pos g, if_pos g]
    exact h (k + i) g
  · rw [if_neg g, if_neg g]
    exact h 31 (by omega)
/-- what carries() packs, and what the law takes out of it -/
theorem ac_pack : ∀ a, a < 16 → ∀ s, s < 16 → (nI a &&& nI s = nI a) → (((nI a ||| (nI s <<< ((4 : Int32) &&& 31))) &&& 15) &&& (((nI a ||| (nI s <<< ((4 : Int32) &&& 31))) >>> ((4 : Int32) &&& 31)) ^^^ (-1))) = 0 := by decide +kernel
theorem ac_row {A S c : Int32} (h : ac_sub A S) : (((((A >>> (c &&& 31)) &&& 15) ||| (((S >>> (c &&& 31)) &&& 15) <<< ((4 : Int32) &&& 31))) &&& 15) &&& (((((A >>> (c &&& 31)) &&& 15) ||| (((S >>> (c &&& 31)) &&& 15) <<< ((4 : Int32) &&& 31))) >>> ((4 : Int32) &&& 31)) ^^^ (-1))) = 0 := by
  have hs : ac_sub ((A >>> (c &&& 31)) &&& 15) ((S >>> (c &&& 31)) &&& 15) := ac_sub_and (ac_sub_shr h c) 15
  obtain ⟨a, ha, ea⟩ := pk_andE (A >>> (c &&& 31)) (m := 15) 4 (by decide)
  obtain ⟨s, hs', es⟩ := pk_andE (S >>> (c &&& 31)) (m := 15) 4 (by decide)
  rw [ea, es] at hs ⊢
  refine ac_pack a ha s hs' (ac_ext (fun i hi => ?_))
  rw [ac_band]
  cases e : ac_bt (nI a) i with
  | false => rfl
  | true => rw [hs i hi e]; rfl
end
section
/-! the picture of a program, of a checked object, of the whole state -/
def ac_okp (l : Int32) : Prop := vp_in (l &&& 7) 5 ∧ vp_in ((l >>> ((3 : Int32) &&& 31)) &&& 7) 5 ∧ vp_in ((l >>> ((6 : Int32) &&& 31)) &&& 7) 5
def ac_oki (j : Nat) (o l t : Int32) : Prop := ac_okp l ∧ ((o = 5 ∨ o = 6) → t = nI (j + 1) ∨ t = nI (j + 2))
def ac_P (n : Nat) (a1 a3 a4 : Nat → Int32) : Prop := n ≤ 14 ∧ ∀ j, j < n → ac_oki j (a1 j) (a3 j) (a4 j)
/-- the successors of j that lie inside are met -/
def ac_cl (n : Nat) (a1 a4 a5 : Nat → Int32) (j : Nat) : Prop := ((a1 j = 5 ∨ a1 j = 6) → ∀ k, k < n → a4 j = nI k → ¬ a5 k = 0) ∧ (¬ a1 j = 6 → ¬ a1 j = 7 → j + 1 < n → ¬ a5 (j + 1) = 0)
/-- no successor of j leaves -/
def ac_nl (n : Nat) (a1 a4 : Nat → Int32) (j : Nat) : Prop := ((a1 j = 5 ∨ a1 j = 6) → ∃ k, k < n ∧ a4 j = nI k) ∧ (¬ a1 j = 6 → ¬ a1 j = 7 → j + 1 < n)
def ac_C (n : Nat) (a1 a4 a5 a6 a7 a8 : Nat → Int32) : Prop := (∀ j, j < 14 → a5 j = 0 ∨ a5 j = 1) ∧ ¬ a5 0 = 0 ∧ (∀ j, j < n → ¬ a5 j = 0 → ac_sub (a6 j) (a7 j)) ∧ (∀ j, j < n → ¬ a5 j = 0 → ac_cl n a1 a4 a5 j) ∧ (∀ j, j < n → ¬ a5 j = 0 → a8 j = 0 → ac_nl n a1 a4 j)
def ac_J (u : St1) : Prop := match u with
  | (sz, ck, wt, st, pc, ch, fk, oc, a1, a2, a3, a4, a5, a6, a7, a8, a9, a10) => ∃ n, sz = nI n ∧ ac_P n a1 a3 a4 ∧ (ck = 0 ∨ ac_C n a1 a4 a5 a6 a7 a8)
theorem ac_okp_of {l : Int32} (h : (0 ≤ (l &&& 7).toInt ∧ (l &&& 7).toInt < (5 : Nat)) ∧ (0 ≤ ((l >>> ((3 : Int32) &&& 31)) &&& 7).toInt ∧ ((l >>> ((3 : Int32) &&& 31)) &&& 7).toInt < (5 : Nat)) ∧ (0 ≤ ((l >>> ((6 : Int32) &&& 31)) &&& 7).toInt ∧ ((l >>> ((6 : Int32) &&& 31)) &&& 7).toInt < (5 : Nat))) : ac_okp l := ⟨vp_in_iff.mpr h.1, vp_in_iff.mpr h.2.1, vp_in_iff.mpr h.2.2⟩
theorem ac_okp_add : ∀ p, p < 5 → ∀ q, q < 5 → ∀ r, r < 5 → ac_okp (((nI p + (8 * nI q)) + (64 * nI r)).toInt16.toInt32) := by
  intro p hp q hq r hr
  refine ac_okp_of ?_
  revert p q r
  decide +kernel
theorem ac_okp_move : ∀ p, p < 5 → ∀ q, q < 5 → ac_okp ((nI p + (8 * nI q)).toInt16.toInt32) := by
  intro p hp q hq
  refine ac_okp_of ?_
  revert p q
  decide +kernel
theorem ac_okp_out : ∀ q, q < 5 → ac_okp ((8 * nI q).toInt16.toInt32) := by
  intro q hq
  refine ac_okp_of ?_
  revert q
  decide +kernel
theorem ac_okp_set : ∀ p, p < 5 → ac_okp ((nI p).toInt16.toInt32) := by
  intro p hp
  refine ac_okp_of ?_
  revert p
  decide +kernel
theorem ac_okp_0 : ac_okp ((0 : Int32).toInt16.toInt32) := ac_okp_set 0 (by omega)
theorem ac_m5 (x : Int32) : ∃ p, p < 5 ∧ (x &&& 255) - (x &&& 255) / 5 * 5 = nI p := by
  obtain ⟨j, hj, e⟩ := pk_andE x (m := 255) 8 (by decide)
  have hj' : j < 256 := hj
  refine ⟨j % 5, Nat.mod_lt _ (by omega), ?_⟩
  rw [e]
  exact pk_rem (a := j) (d := 5) (by omega) (by omega) (by omega)
section
variable {sz ck wt st pc ch fk oc : Int32} {a1 a2 a3 a4 a5 a6 a7 a8 a9 a10 : Nat → Int32}
theorem ac_append {post : Int32 → St1 → Prop} {p0 p1 p2 p3 : Int32} (hJ : ac_J (sz, ck, wt, st, pc, ch, fk, oc, a1, a2, a3, a4, a5, a6, a7, a8, a9, a10)) (hl : ac_okp p2.toInt16.toInt32) (ht : ∀ n, sz = nI n → (p0.toInt8.toInt32 = 5 ∨ p0.toInt8.toInt32 = 6) → p3 = nI (n + 1) ∨ p3 = nI (n + 2)) (H : ∀ r u, ac_J u → post r u) : wpX_append post (sz, ck, wt, st, pc, ch, fk, oc, a1, a2, a3, a4, a5, a6, a7, a8, a9, a10) p0 p1 p2 p3 := by
  have hJ' := hJ
  obtain ⟨n, rfl, ⟨hn, hp⟩, hc⟩ := hJ'
  unfold wpX_append
  refine pk_lt n 14 (fun z => ⟨pk_in n 14 z, nm_e ⟨pk_in n 14 z, nm_e ⟨pk_in n 14 z, nm_e ⟨pk_in n 14 z, nm_e (nm_r (nI_1 n) ?_)⟩⟩⟩⟩) (fun _ => H _ _ hJ)
  rw [nI_clamp (show n < 2 ^ 31 by omega)]
  refine H _ _ ⟨n + 1, rfl, ⟨by omega, ?_⟩, Or.inl rfl⟩
  intro j hj
  by_cases e : j = n
  · subst e
    rw [pk_us, pk_us, pk_us]
    exact ⟨hl, ht j rfl⟩
  · rw [pk_un e, pk_un e, pk_un e]
    exact hp j (by omega)
theorem ac_isV {post : Int32 → Prop} {x : Int32} (h : ∀ r, post r) : wpX_isValue post () x := by
  unfold wpX_isValue
  exact br_c (fun _ => h 0) (fun _ => br_c (fun _ => h 0) (fun _ => h 1))
theorem ac_isP {post : Int32 → Prop} {x : Int32} (h : ∀ r, post r) : wpX_isPlace post () x := by
  unfold wpX_isPlace
  exact br_c (fun _ => h 0) (fun _ => br_c (fun _ => h 0) (fun _ => h 1))
theorem ac_set {post : Int32 → St1 → Prop} {p0 p1 p2 : Int32} (hJ : ac_J (sz, ck, wt, st, pc, ch, fk, oc, a1, a2, a3, a4, a5, a6, a7, a8, a9, a10)) (hl : ac_okp p1.toInt16.toInt32) (H : ∀ r u, ac_J u → post r u) : wpX_set post (sz, ck, wt, st, pc, ch, fk, oc, a1, a2, a3, a4, a5, a6, a7, a8, a9, a10) p0 p1 p2 := by
  unfold wpX_set
  exact ac_isV (fun _ => br_c (fun _ => H _ _ hJ) (fun _ => ac_isP (fun _ => br_c (fun _ => H _ _ hJ) (fun _ => ac_append hJ hl (fun n _ h => absurd h (by decide)) (fun r u hu => H r u hu)))))
theorem ac_move {post : Int32 → St1 → Prop} {p0 p1 : Int32} (hJ : ac_J (sz, ck, wt, st, pc, ch, fk, oc, a1, a2, a3, a4, a5, a6, a7, a8, a9, a10)) (hl : ac_okp (p0 + (8 * p1)).toInt16.toInt32) (H : ∀ r u, ac_J u → post r u) : wpX_move post (sz, ck, wt, st, pc, ch, fk, oc, a1, a2, a3, a4, a5, a6, a7, a8, a9, a10) p0 p1 := by
  unfold wpX_move
  exact ac_isP (fun _ => br_c (fun _ => H _ _ hJ) (fun _ => ac_isP (fun _ => br_c (fun _ => H _ _ hJ) (fun _ => ac_append hJ hl (fun n _ h => absurd h (by decide)) (fun r u hu => H r u hu)))))
theorem ac_out {post : Int32 → St1 → Prop} {p0 p1 : Int32} (hJ : ac_J (sz, ck, wt, st, pc, ch, fk, oc, a1, a2, a3, a4, a5, a6, a7, a8, a9, a10)) (hl : ac_okp (8 * p1).toInt16.toInt32) (H : ∀ r u, ac_J u → post r u) : wpX_out post (sz, ck, wt, st, pc, ch, fk, oc, a1, a2, a3, a4, a5, a6, a7, a8, a9, a10) p0 p1 := by
  unfold wpX_out
  exact ac_isV (fun _ => br_c (fun _ => H _ _ hJ) (fun _ => ac_isP (fun _ => br_c (fun _ => H _ _ hJ) (fun _ => ac_append hJ hl (fun n _ h => absurd h (by decide)) (fun r u hu => H r u hu)))))
theorem ac_same {post : Int32 → St1 → Prop} {p0 p1 : Int32} (hJ : ac_J (sz, ck, wt, st, pc, ch, fk, oc, a1, a2, a3, a4, a5, a6, a7, a8, a9, a10)) (H : ∀ r u, ac_J u → post r u) : wpX_same post (sz, ck, wt, st, pc, ch, fk, oc, a1, a2, a3, a4, a5, a6, a7, a8, a9, a10) p0 p1 := by
  unfold wpX_same
  exact ac_isV (fun _ => br_c (fun _ => H _ _ hJ) (fun _ => ac_isV (fun _ => br_c (fun _ => H _ _ hJ) (fun _ => ac_append hJ ac_okp_0 (fun n _ h => absurd h (by decide)) (fun r u hu => H r u hu)))))
theorem ac_flow {post : Int32 → St1 → Prop} {p0 p1 : Int32} (hJ : ac_J (sz, ck, wt, st, pc, ch, fk, oc, a1, a2, a3, a4, a5, a6, a7, a8, a9, a10)) (ht : ∀ n, sz = nI n → ((5 + p0).toInt8.toInt32 = 5 ∨ (5 + p0).toInt8.toInt32 = 6) → p1 = nI (n + 1) ∨ p1 = nI (n + 2)) (H : ∀ r u, ac_J u → post r u) : wpX_flow post (sz, ck, wt, st, pc, ch, fk, oc, a1, a2, a3, a4, a5, a6, a7, a8, a9, a10) p0 p1 := by
  unfold wpX_flow
  exact br_c (fun _ => H _ _ hJ) (fun _ => br_c (fun _ => H _ _ hJ) (fun _ => ac_append hJ ac_okp_0 ht (fun r u hu => H r u hu)))
theorem ac_stop {post : Int32 → St1 → Prop} (hJ : ac_J (sz, ck, wt, st, pc, ch, fk, oc, a1, a2, a3, a4, a5, a6, a7, a8, a9, a10)) (H : ∀ r u, ac_J u → post r u) : wpX_flow post (sz, ck, wt, st, pc, ch, fk, oc, a1, a2, a3, a4, a5, a6, a7, a8, a9, a10) 2 0 := ac_flow hJ (fun n _ h => absurd h (by decide)) H
theorem ac_add19 {post : Int32 → St1 → Prop} {x1 x2 z0 : Int32} (hJ : ac_J (sz, ck, wt, st, pc, ch, fk, oc, a1, a2, a3, a4, a5, a6, a7, a8, a9, a10)) (hl : ac_okp x2.toInt16.toInt32) (H : ∀ r u, ac_J u → post r u) : wX_add_19 post x1 x2 z0 sz ck wt st pc ch fk oc a1 a2 a3 a4 a5 a6 a7 a8 a9 a10 := by
  unfold wX_add_19
  exact br_c (fun _ => H _ _ hJ) (fun _ => ac_isP (fun _ => br_c (fun _ => H _ _ hJ) (fun _ => ac_isP (fun _ => br_c (fun _ => H _ _ hJ) (fun _ => ac_isP (fun _ => br_c (fun _ => H _ _ hJ) (fun _ => ac_append hJ hl (fun n _ h => absurd h (by decide)) (fun r u hu => H r u hu))))))))
theorem ac_add {post : Int32 → St1 → Prop} {p0 p1 : Int32} (hJ : ac_J (sz, ck, wt, st, pc, ch, fk, oc, a1, a2, a3, a4, a5, a6, a7, a8, a9, a10)) (hl : ac_okp p1.toInt16.toInt32) (H : ∀ r u, ac_J u → post r u) : wpX_add post (sz, ck, wt, st, pc, ch, fk, oc, a1, a2, a3, a4, a5, a6, a7, a8, a9, a10) p0 p1 := by
  unfold wpX_add
  exact br_c (fun _ => ac_add19 hJ hl H) (fun _ => br_c (fun _ => ac_add19 hJ hl H) (fun _ => br_c (fun _ => ac_add19 hJ hl H) (fun _ => ac_add19 hJ hl H)))
theorem ac_e186 {post : St1 → Prop} {x3 z0 : Int32} (hJ : ac_J (sz, ck, wt, st, pc, ch, fk, oc, a1, a2, a3, a4, a5, a6, a7, a8, a9, a10)) (H : ∀ u, ac_J u → post u) : wL_emit_186 post x3 z0 sz ck wt st pc ch fk oc a1 a2 a3 a4 a5 a6 a7 a8 a9 a10 := by
  have hJ' := hJ
  obtain ⟨n, rfl, hP, hc⟩ := hJ'
  unfold wL_emit_186
  refine ac_flow hJ (fun n' e _ => ?_) (fun r u hu => H u hu)
  obtain ⟨j, hj, ej⟩ := pk_andE (x3 >>> ((2 : Int32) &&& 31)) (m := 1) 1 (by decide)
  rw [ej, e, nI_1, nI_add]
  have hj' : j < 2 := hj
  rcases (show j = 0 ∨ j = 1 by omega) with z | z
  · rw [z]
    exact Or.inl rfl
  · rw [z]
    exact Or.inr rfl
theorem ac_emit {post : St1 → Prop} {p1 p2 p3 : Int32} (hJ : ac_J (sz, ck, wt, st, pc, ch, fk, oc, a1, a2, a3, a4, a5, a6, a7, a8, a9, a10)) (H : ∀ u, ac_J u → post u) : wpL_emit post (sz, ck, wt, st, pc, ch, fk, oc, a1, a2, a3, a4, a5, a6, a7, a8, a9, a10) p1 p2 p3 := by
  obtain ⟨p, hp, ep⟩ := ac_m5 (p2 >>> ((6 : Int32) &&& 31))
  obtain ⟨q, hq, eq⟩ := ac_m5 (p2 >>> ((14 : Int32) &&& 31))
  obtain ⟨r, hr, er⟩ := ac_m5 (p2 >>> ((22 : Int32) &&& 31))
  unfold wpL_emit
  refine nm_e (nm_e (nm_e ⟨by decide, nm_r ep ⟨by decide, nm_r eq ⟨by decide, nm_r er ?_⟩⟩⟩))
  exact br_c (fun _ => br_c (fun _ => br_c (fun _ => br_c (fun _ => br_c (fun _ => br_c (fun _ => ac_stop hJ (fun _ u hu => H u hu)) (fun _ => br_c (fun _ => ac_e186 hJ H) (fun _ => ac_e186 hJ H))) (fun _ => ac_same hJ (fun _ u hu => H u hu))) (fun _ => ac_out hJ (ac_okp_out p hp) (fun _ u hu => H u hu))) (fun _ => ac_move hJ (ac_okp_move p hp q hq) (fun _ u hu => H u hu))) (fun _ => ac_add hJ (ac_okp_add p hp q hq r hr) (fun _ u hu => H u hu))) (fun _ => ac_set hJ (ac_okp_set p hp) (fun _ u hu => H u hu))
theorem ac_drop {post : Int32 → St1 → Prop} (hJ : ac_J (sz, ck, wt, st, pc, ch, fk, oc, a1, a2, a3, a4, a5, a6, a7, a8, a9, a10)) (H : ∀ r u, ac_J u → post r u) : wpX_drop post (sz, ck, wt, st, pc, ch, fk, oc, a1, a2, a3, a4, a5, a6, a7, a8, a9, a10) := by
  have hJ' := hJ
  obtain ⟨n, rfl, ⟨hn, hp⟩, hc⟩ := hJ'
  unfold wpX_drop
  refine pk_eq n 0 (fun _ => H _ _ hJ) (fun z => ?_)
  obtain ⟨m, rfl⟩ : ∃ m, n = m + 1 := ⟨n - 1, by omega⟩
  refine nm_r (nI_pred m) ?_
  exact H _ _ ⟨m, rfl, ⟨by omega, fun j hj => hp j (by omega)⟩, Or.inl rfl⟩
end
end
section
/-! the check under way: K (waiting places are met and lie at m or beyond; always is a part of sometimes), T (a step only adds) -/
def ac_K (n m : Nat) (wt : Int32) (a5 a6 a7 : Nat → Int32) : Prop := (∀ j, j < 14 → a5 j = 0 ∨ a5 j = 1) ∧ (∀ j, j < 32 → ac_bt wt j = true → m ≤ j ∧ j < n ∧ ¬ a5 j = 0) ∧ (∀ j, j < n → ¬ a5 j = 0 → ac_sub (a6 j) (a7 j))
def ac_T (n : Nat) (wt : Int32) (a5 : Nat → Int32) (wt' : Int32) (a5' : Nat → Int32) : Prop := (∀ j, ¬ a5 j = 0 → ¬ a5' j = 0) ∧ (∀ j, j < 32 → ac_bt wt j = true → ac_bt wt' j = true) ∧ (∀ j, j < n → ¬ a5' j = 0 → ¬ a5 j = 0 ∨ ac_bt wt' j = true)
theorem ac_T_rfl {n : Nat} {wt : Int32} {a5 : Nat → Int32} : ac_T n wt a5 wt a5 := ⟨fun _ h => h, fun _ _ h => h, fun _ _ h => Or.inl h⟩
theorem ac_T_tr {n : Nat} {w1 w2 w3 : Int32} {b1 b2 b3 : Nat → Int32} (hn : n ≤ 32) (h : ac_T n w1 b1 w2 b2) (g : ac_T n w2 b2 w3 b3) : ac_T n w1 b1 w3 b3 := by
  refine ⟨fun j z => g.1 j (h.1 j z), fun j hj z => g.2.1 j hj (h.2.1 j hj z), fun j hj z => ?_⟩
  rcases g.2.2 j hj z with y | y
  · rcases h.2.2 j hj y with x | x
    · exact Or.inl x
    · exact Or.inr (g.2.1 j (by omega) x)
  · exact Or.inr y
theorem ac_cl_up {n j : Nat} {a1 a4 b c : Nat → Int32} (h : ac_cl n a1 a4 b j) (t : ∀ j, ¬ b j = 0 → ¬ c j = 0) : ac_cl n a1 a4 c j := ⟨fun o k hk e => t k (h.1 o k hk e), fun o o' z => t _ (h.2 o o' z)⟩
theorem ac_ne10 : ¬ (1 : Int32) = 0 := by decide
theorem ac_K_put {n m k : Nat} {wt x y : Int32} {a5 a6 a7 : Nat → Int32} (hn : n ≤ 14) (hk : k < n) (hm : m ≤ k) (hK : ac_K n m wt a5 a6 a7) (hs : ac_sub x y) : ac_K n m (wt ||| ((1 : Int32) <<< (nI k &&& 31))) (upd a5 k 1) (upd a6 k (a6 k &&& x)) (upd a7 k (a7 k ||| y)) := by
  obtain ⟨kb, kw, ks⟩ := hK
  refine ⟨fun j hj => ?_, fun j hj hb => ?_, fun j hj h5 => ?_⟩
  · by_cases e : j = k
    · rw [e, pk_us]
      exact Or.inr rfl
    · rw [pk_un e]
      exact kb j hj
  · rw [ac_bset wt (by omega) hj] at hb
    by_cases e : j = k
    · rw [e, pk_us]
      exact ⟨hm, hk, ac_ne10⟩
    · rw [pk_un e]
      exact kw j hj (hb.resolve_right e)
  · by_cases e : j = k
    · rw [e, pk_us, pk_us]
      exact ac_sub_ao hs _ _
    · rw [pk_un e] at h5
      rw [pk_un e, pk_un e]
      exact ks j hj h5
theorem ac_T_put {n k : Nat} {wt : Int32} {a5 : Nat → Int32} (hn : n ≤ 14) (hk : k < n) : ac_T n wt a5 (wt ||| ((1 : Int32) <<< (nI k &&& 31))) (upd a5 k 1) := by
  refine ⟨fun j h => ?_, fun j hj h => ?_, fun j hj h => ?_⟩
  · by_cases e : j = k
    · rw [e, pk_us]
      exact ac_ne10
    · rw [pk_un e]
      exact h
  · exact (ac_bset wt (by omega) hj).mpr (Or.inl h)
  · by_cases e : j = k
    · exact Or.inr ((ac_bset wt (by omega) (by omega)).mpr (Or.inr e))
    · rw [pk_un e] at h
      exact Or.inl h
section
variable {sz ck wt st pc ch fk oc : Int32} {a1 a2 a3 a4 a5 a6 a7 a8 a9 a10 : Nat → Int32}
theorem ac_inside {post : Int32 → Prop} {k n : Nat} (hk : k < 2 ^ 31) (hn : n < 2 ^ 31) (h0 : n ≤ k → post 0) (h1 : k < n → post 1) : wpX_inside post (nI n, ck, wt, st, pc, ch, fk, oc, a1, a2, a3, a4, a5, a6, a7, a8, a9, a10) (nI k) := by
  unfold wpX_inside
  exact br_f (nI_pos hk) (pk_le n k h0 h1)
theorem ac_come60 {post : St1 → Prop} {k : Nat} {x y : Int32} (hk : k < 14) (H : post (sz, ck, wt ||| ((1 : Int32) <<< (nI k &&& 31)), st, pc, ch, fk, oc, a1, a2, a3, a4, upd a5 k 1, upd a6 k x, upd a7 k y, a8, a9, a10)) : wX_come_60 post (nI k) x y sz ck wt st pc ch fk oc a1 a2 a3 a4 a5 a6 a7 a8 a9 a10 := by
  unfold wX_come_60
  rw [nI_clamp (show k < 2 ^ 31 by omega)]
  exact ⟨pk_in k 14 hk, nm_e ⟨pk_in k 14 hk, nm_e ⟨pk_in k 14 hk, nm_e (nm_e H)⟩⟩⟩
theorem ac_come {post : St1 → Prop} {n m k : Nat} {x y : Int32} (hn : n ≤ 14) (hk : k < 2 ^ 31) (hm : m ≤ k) (hK : ac_K n m wt a5 a6 a7) (hs : ac_sub x y)
    (H : ∀ (wt' : Int32) (a5' a6' a7' : Nat → Int32), ac_K n m wt' a5' a6' a7' → ac_T n wt a5 wt' a5' → (k < n → ¬ a5' k = 0) → post (nI n, ck, wt', st, pc, ch, fk, oc, a1, a2, a3, a4, a5', a6', a7', a8, a9, a10)) : wpX_come post (nI n, ck, wt, st, pc, ch, fk, oc, a1, a2, a3, a4, a5, a6, a7, a8, a9, a10) (nI k) x y := by
  unfold wpX_come
  refine ac_inside hk (by omega) (fun z => br_t rfl (H _ _ _ _ hK ac_T_rfl (fun z' => absurd z' (by omega)))) (fun z => br_f ac_ne10 ?_)
  have c60 : wX_come_60 post (nI k) (a6 k &&& x) (a7 k ||| y) (nI n) ck wt st pc ch fk oc a1 a2 a3 a4 a5 a6 a7 a8 a9 a10 := ac_come60 (by omega) (H _ _ _ _ (ac_K_put hn z hm hK hs) (ac_T_put hn z) (fun _ => by rw [pk_us]; exact ac_ne10))
  rw [nI_clamp hk]
  have hi : vp_in (nI k) 14 := pk_in k 14 (by omega)
  exact ⟨hi, nm_e ⟨hi, nm_e ⟨hi, br_c (fun _ => c60) (fun h5 => ⟨hi, br_c (fun e6 => ⟨hi, br_c (fun e7 => H _ _ _ _ hK ac_T_rfl (fun _ => h5)) (fun _ => c60)⟩) (fun _ => c60)⟩)⟩⟩⟩
theorem ac_after {p : Nat} (hp : p < 14) : ∃ f : Int32 → Int32, (∀ x y, ac_sub x y → ac_sub (f x) (f y)) ∧ ∀ (post : Int32 → Prop) (x : Int32), post (f x) → wpX_after post (sz, ck, wt, st, pc, ch, fk, oc, a1, a2, a3, a4, a5, a6, a7, a8, a9, a10) (nI p) x := by
  have hi : vp_in (nI p) 14 := pk_in p 14 hp
  have hc : (nI p).toNatClampNeg = p := nI_clamp (by omega)
  by_cases o0 : a1 p = 0
  · refine ⟨fun x => ((x &&& (((69905 : Int32) <<< ((a2 p &&& 3) &&& 31)) ^^^ (-1))) &&& (((15 : Int32) <<< ((4 * (a3 p &&& 7)) &&& 31)) ^^^ (-1))) ||| ((1 : Int32) <<< (((4 * (a3 p &&& 7)) + (a2 p &&& 3)) &&& 31)), fun x y h => ac_sub_or (ac_sub_and (ac_sub_and h _) _) ac_sub_rfl, fun post x h => ?_⟩
    unfold wpX_after
    rw [hc]
    exact ⟨hi, nm_e ⟨hi, nm_e ⟨hi, nm_e (br_t o0 (nm_e (nm_e h)))⟩⟩⟩
  by_cases o1 : a1 p = 1
  · refine ⟨fun x => ((x &&& (((69905 : Int32) <<< ((a2 p &&& 3) &&& 31)) ^^^ (-1))) &&& (((15 : Int32) <<< ((4 * (a3 p &&& 7)) &&& 31)) ^^^ (-1))) ||| ((1 : Int32) <<< (((4 * (a3 p &&& 7)) + (a2 p &&& 3)) &&& 31)), fun x y h => ac_sub_or (ac_sub_and (ac_sub_and h _) _) ac_sub_rfl, fun post x h => ?_⟩
    unfold wpX_after
    rw [hc]
    exact ⟨hi, nm_e ⟨hi, nm_e ⟨hi, nm_e (br_f o0 (br_t o1 (nm_e (nm_e h))))⟩⟩⟩
  by_cases o2 : a1 p = 2
  · refine ⟨fun x => (x &&& (((15 : Int32) <<< ((4 * (a3 p &&& 7)) &&& 31)) ^^^ (-1))) ||| (((x >>> ((4 * ((a3 p >>> ((3 : Int32) &&& 31)) &&& 7)) &&& 31)) &&& 15) <<< ((4 * (a3 p &&& 7)) &&& 31)), fun x y h => ac_sub_or (ac_sub_and h _) (ac_sub_shl (ac_sub_and (ac_sub_shr h _) _) _), fun post x h => ?_⟩
    unfold wpX_after
    rw [hc]
    exact ⟨hi, nm_e ⟨hi, nm_e ⟨hi, nm_e (br_f o0 (br_f o1 (br_t o2 ⟨hi, nm_e h⟩)))⟩⟩⟩
  by_cases o4 : a1 p = 4
  · refine ⟨fun x => (x &&& (((69905 : Int32) <<< ((a2 p &&& 3) &&& 31)) ^^^ (-1))) ||| (((x >>> (((a2 p >>> ((2 : Int32) &&& 31)) &&& 3) &&& 31)) &&& 69905) <<< ((a2 p &&& 3) &&& 31)), fun x y h => ac_sub_or (ac_sub_and h _) (ac_sub_shl (ac_sub_and (ac_sub_shr h _) _) _), fun post x h => ?_⟩
    unfold wpX_after
    rw [hc]
    exact ⟨hi, nm_e ⟨hi, nm_e ⟨hi, nm_e (br_f o0 (br_f o1 (br_f o2 (br_t o4 ⟨hi, nm_e h⟩))))⟩⟩⟩
  · refine ⟨fun x => x, fun x y h => h, fun post x h => ?_⟩
    unfold wpX_after
    rw [hc]
    exact ⟨hi, nm_e ⟨hi, nm_e ⟨hi, nm_e (br_f o0 (br_f o1 (br_f o2 (br_f o4 h))))⟩⟩⟩
theorem ac_s57 {post : St1 → Prop} {n p : Nat} {x y x4 : Int32} (hn : n ≤ 14) (hp : p < n) (hx : x4 = a1 p) (hK : ac_K n (p + 1) wt a5 a6 a7) (hs : ac_sub x y) (h1 : (a1 p = 5 ∨ a1 p = 6) → ∀ k, k < n → a4 p = nI k → ¬ a5 k = 0)
    (H : ∀ (wt' : Int32) (a5' a6' a7' : Nat → Int32), ac_K n (p + 1) wt' a5' a6' a7' → ac_T n wt a5 wt' a5' → ac_cl n a1 a4 a5' p → post (nI n, ck, wt', st, pc, ch, fk, oc, a1, a2, a3, a4, a5', a6', a7', a8, a9, a10)) : wX_spread_57 post (nI p) x y x4 (nI n) ck wt st pc ch fk oc a1 a2 a3 a4 a5 a6 a7 a8 a9 a10 := by
  subst hx
  unfold wX_spread_57
  refine br_c (fun e => H _ _ _ _ hK ac_T_rfl ⟨h1, fun e' => absurd e e'⟩) (fun e => br_c (fun e7 => H _ _ _ _ hK ac_T_rfl ⟨h1, fun _ e' => absurd e7 e'⟩) (fun e7 => ?_))
  rw [nI_1]
  exact ac_come hn (by omega) (Nat.le_refl _) hK hs (fun wt' a5' a6' a7' k' t' c' => H _ _ _ _ k' t' ⟨fun o k hk ek => t'.1 _ (h1 o k hk ek), fun _ _ hl => c' hl⟩)
theorem ac_s45 {post : St1 → Prop} {n p : Nat} {x y x4 : Int32} (hn : n ≤ 14) (hp : p < n) (hx : x4 = a1 p) (ht : a4 p = nI (p + 1) ∨ a4 p = nI (p + 2)) (hK : ac_K n (p + 1) wt a5 a6 a7) (hs : ac_sub x y)
    (H : ∀ (wt' : Int32) (a5' a6' a7' : Nat → Int32), ac_K n (p + 1) wt' a5' a6' a7' → ac_T n wt a5 wt' a5' → ac_cl n a1 a4 a5' p → post (nI n, ck, wt', st, pc, ch, fk, oc, a1, a2, a3, a4, a5', a6', a7', a8, a9, a10)) : wX_spread_45 post (nI p) x y x4 (nI n) ck wt st pc ch fk oc a1 a2 a3 a4 a5 a6 a7 a8 a9 a10 := by
  obtain ⟨k, hk1, hk2, ek⟩ : ∃ k, p + 1 ≤ k ∧ k < 100 ∧ a4 p = nI k := by
    rcases ht with e | e
    · exact ⟨p + 1, by omega, by omega, e⟩
    · exact ⟨p + 2, by omega, by omega, e⟩
  unfold wX_spread_45
  rw [nI_clamp (show p < 2 ^ 31 by omega), ek]
  refine ⟨pk_in p 14 (by omega), ac_come hn (show k < 2 ^ 31 by omega) hk1 hK hs (fun wt' a5' a6' a7' k' t' c' => ?_)⟩
  refine ac_s57 hn hp hx k' hs (fun _ i hi ei => ?_) (fun wt'' a5'' a6'' a7'' k'' t'' c'' => H _ _ _ _ k'' (ac_T_tr (by omega) t' t'') c'')
  rw [ek, nI_eq (by omega) (by omega)] at ei
  subst ei
  exact c' hi
theorem ac_spread {post : St1 → Prop} {n p : Nat} (hP : ac_P n a1 a3 a4) (hp : p < n) (h5 : ¬ a5 p = 0) (hK : ac_K n (p + 1) wt a5 a6 a7)
    (H : ∀ (wt' : Int32) (a5' a6' a7' : Nat → Int32), ac_K n (p + 1) wt' a5' a6' a7' → ac_T n wt a5 wt' a5' → ac_cl n a1 a4 a5' p → post (nI n, ck, wt', st, pc, ch, fk, oc, a1, a2, a3, a4, a5', a6', a7', a8, a9, a10)) : wpX_spread post (nI n, ck, wt, st, pc, ch, fk, oc, a1, a2, a3, a4, a5, a6, a7, a8, a9, a10) (nI p) := by
  obtain ⟨hn, hi⟩ := hP
  have hp' : p < 14 := by omega
  obtain ⟨f, hf, hw⟩ := ac_after (sz := nI n) (ck := ck) (wt := wt) (st := st) (pc := pc) (ch := ch) (fk := fk) (oc := oc) (a1 := a1) (a2 := a2) (a3 := a3) (a4 := a4) (a5 := a5) (a6 := a6) (a7 := a7) (a8 := a8) (a9 := a9) (a10 := a10) hp'
  have hs := hf _ _ (hK.2.2 p hp h5)
  have hv : vp_in (nI p) 14 := pk_in p 14 hp'
  unfold wpX_spread
  rw [nI_clamp (show p < 2 ^ 31 by omega)]
  refine ⟨hv, hw _ _ ⟨hv, hw _ _ ⟨hv, nm_e ?_⟩⟩⟩
  exact br_c (fun e => ac_s45 hn hp rfl ((hi p hp).2 (Or.inl e)) hK hs H) (fun e5 => br_c (fun e => ac_s45 hn hp rfl ((hi p hp).2 (Or.inr e)) hK hs H) (fun e6 => ac_s57 hn hp rfl hK hs (fun o => absurd o (fun o => o.elim e5 e6)) H))
theorem ac_least {post : Int32 → Prop} {j : Nat} (hj : j < 14) (hb : ac_bt wt j = true) (hl : ∀ i, i < j → ac_bt wt i = false) (H : post (nI j)) : wpX_leastWaiting post (sz, ck, wt, st, pc, ch, fk, oc, a1, a2, a3, a4, a5, a6, a7, a8, a9, a10) := by
  unfold wpX_leastWaiting
  exact pk_loop (σ := Unit) (fun m i _ => wX_leastWaiting_2 post sz ck wt st pc ch fk oc a1 a2 a3 a4 a5 a6 a7 a8 a9 a10 m (nI i)) (fun _ _ => True) j 0 () (by omega) trivial
    (fun m _ _ => pk_le 14 j (fun z => absurd z (by omega)) (fun _ => br_f (fun e => by rw [(ac_tst wt j (by omega)).mp e] at hb; exact absurd hb (by decide)) H))
    (fun m i _ hi _ hw => pk_le 14 i (fun z => absurd z (by omega)) (fun _ => br_t ((ac_tst wt i (by omega)).mpr (hl i hi)) (nm_r (nI_1 i) (hw () trivial))))
end
end
section
/-! faultsAt: a zero says that no successor leaves -/
def ac_s4 (x : Int32) : Prop := x = 0 ∨ x = 1 ∨ x = 2 ∨ x = 3
theorem ac_s4_1 {x : Int32} (h : ac_s4 x) : ac_s4 (x ||| 1) := by
  rcases h with e | e | e | e <;> subst e
  · exact Or.inr (Or.inl (by decide))
  · exact Or.inr (Or.inl (by decide))
  · exact Or.inr (Or.inr (Or.inr (by decide)))
  · exact Or.inr (Or.inr (Or.inr (by decide)))
theorem ac_s4_2 {x : Int32} (h : ac_s4 x) : ac_s4 (x ||| 2) := by
  rcases h with e | e | e | e <;> subst e
  · exact Or.inr (Or.inr (Or.inl (by decide)))
  · exact Or.inr (Or.inr (Or.inr (by decide)))
  · exact Or.inr (Or.inr (Or.inl (by decide)))
  · exact Or.inr (Or.inr (Or.inr (by decide)))
theorem ac_s4_4 {x : Int32} (h : ac_s4 x) : ¬ (x ||| 4).toInt8.toInt32 = 0 := by
  rcases h with e | e | e | e <;> subst e <;> decide
theorem ac_s4_0 : ac_s4 0 := Or.inl rfl
section
variable {sz ck wt st pc ch fk oc : Int32} {a1 a2 a3 a4 a5 a6 a7 a8 a9 a10 : Nat → Int32}
theorem ac_carried {post : Int32 → Prop} {p : Nat} {x y : Int32} (hp : p < 14) (h : ∀ r, post r) : wpX_carried post (sz, ck, wt, st, pc, ch, fk, oc, a1, a2, a3, a4, a5, a6, a7, a8, a9, a10) (nI p) x y := by
  unfold wpX_carried
  exact ⟨pk_in p 14 hp, br_c (fun _ => h 0) (fun _ => h 1)⟩
theorem ac_f159 {post : Int32 → Prop} {x3 x5 : Int32} {Q : Prop} (h3 : ac_s4 x3) (hq : x5 = 0 → Q) (H : ∀ r, (r.toInt8.toInt32 = 0 → Q) → post r) : wX_faultsAt_159 post x3 x5 sz ck wt st pc ch fk oc a1 a2 a3 a4 a5 a6 a7 a8 a9 a10 := by
  unfold wX_faultsAt_159
  exact br_c (fun e => H _ (fun _ => hq e)) (fun _ => H _ (fun z => absurd z (ac_s4_4 h3)))
theorem ac_f132 {post : Int32 → Prop} {n p : Nat} {x2 x3 z0 : Int32} (hn : n ≤ 14) (hp : p < n) (hx : x2 = a1 p) (h3 : ac_s4 x3) (hz : z0 = 0 → (a1 p = 5 ∨ a1 p = 6) → ∃ k, k < n ∧ a4 p = nI k) (H : ∀ r, (r.toInt8.toInt32 = 0 → ac_nl n a1 a4 p) → post r) : wX_faultsAt_132 post (nI p) x2 x3 z0 (nI n) ck wt st pc ch fk oc a1 a2 a3 a4 a5 a6 a7 a8 a9 a10 := by
  subst hx
  unfold wX_faultsAt_132
  refine br_c (fun e => ac_f159 h3 (fun z => ⟨hz z, fun e' => absurd e e'⟩) H) (fun e => br_c (fun e7 => ac_f159 h3 (fun z => ⟨hz z, fun _ e' => absurd e7 e'⟩) H) (fun e7 => ?_))
  rw [nI_1]
  exact ac_inside (by omega) (by omega) (fun z => br_t rfl (ac_f159 h3 (fun z' => absurd z' ac_ne10) H)) (fun z => br_f ac_ne10 (ac_f159 h3 (fun z' => ⟨hz z', fun _ _ => z⟩) H))
theorem ac_f114 {post : Int32 → Prop} {n p k : Nat} {x2 x3 : Int32} (hn : n ≤ 14) (hp : p < n) (hx : x2 = a1 p) (h3 : ac_s4 x3) (hk : k < 100) (ek : a4 p = nI k) (H : ∀ r, (r.toInt8.toInt32 = 0 → ac_nl n a1 a4 p) → post r) : wX_faultsAt_114 post (nI p) x2 x3 (nI n) ck wt st pc ch fk oc a1 a2 a3 a4 a5 a6 a7 a8 a9 a10 := by
  unfold wX_faultsAt_114
  rw [nI_clamp (show p < 2 ^ 31 by omega), ek]
  exact ⟨pk_in p 14 (by omega), ac_inside (by omega) (by omega) (fun z => br_t rfl (ac_f132 hn hp hx h3 (fun z' => absurd z' ac_ne10) H)) (fun z => br_f ac_ne10 (ac_f132 hn hp hx h3 (fun _ _ => ⟨k, z, ek⟩) H))⟩
theorem ac_f103 {post : Int32 → Prop} {n p : Nat} {x2 x3 : Int32} (hP : ac_P n a1 a3 a4) (hp : p < n) (hx : x2 = a1 p) (h3 : ac_s4 x3) (H : ∀ r, (r.toInt8.toInt32 = 0 → ac_nl n a1 a4 p) → post r) : wX_faultsAt_103 post (nI p) x2 x3 (nI n) ck wt st pc ch fk oc a1 a2 a3 a4 a5 a6 a7 a8 a9 a10 := by
  obtain ⟨hn, hi⟩ := hP
  have ht : (a1 p = 5 ∨ a1 p = 6) → ∃ k, k < 100 ∧ a4 p = nI k := by
    intro o
    rcases (hi p hp).2 o with e | e
    · exact ⟨p + 1, by omega, e⟩
    · exact ⟨p + 2, by omega, e⟩
  subst hx
  unfold wX_faultsAt_103
  refine br_c (fun e => ?_) (fun e5 => br_c (fun e => ?_) (fun e6 => ?_))
  · obtain ⟨k, hk, ek⟩ := ht (Or.inl e)
    exact ac_f114 hn hp rfl h3 hk ek H
  · obtain ⟨k, hk, ek⟩ := ht (Or.inr e)
    exact ac_f114 hn hp rfl h3 hk ek H
  · exact ac_f132 hn hp rfl h3 (fun _ o => absurd o (fun o => o.elim e5 e6)) H
theorem ac_f64 {post : Int32 → Prop} {n p : Nat} {x2 x3 : Int32} (hP : ac_P n a1 a3 a4) (hp : p < n) (hx : x2 = a1 p) (h3 : ac_s4 x3) (H : ∀ r, (r.toInt8.toInt32 = 0 → ac_nl n a1 a4 p) → post r) : wX_faultsAt_64 post (nI p) x2 x3 (nI n) ck wt st pc ch fk oc a1 a2 a3 a4 a5 a6 a7 a8 a9 a10 := by
  have hn := hP.1
  have hv : vp_in (nI p) 14 := pk_in p 14 (by omega)
  unfold wX_faultsAt_64
  exact br_c (fun _ => ⟨hv, hv, ac_carried (by omega) (fun r => br_c (fun _ => nm_e (ac_f103 hP hp hx (ac_s4_2 h3) H)) (fun _ => ac_f103 hP hp hx h3 H))⟩) (fun _ => ac_f103 hP hp hx h3 H)
theorem ac_f24 {post : Int32 → Prop} {n p : Nat} {x2 x3 z0 : Int32} (hP : ac_P n a1 a3 a4) (hp : p < n) (hx : x2 = a1 p) (h3 : ac_s4 x3) (H : ∀ r, (r.toInt8.toInt32 = 0 → ac_nl n a1 a4 p) → post r) : wX_faultsAt_24 post (nI p) x2 x3 z0 (nI n) ck wt st pc ch fk oc a1 a2 a3 a4 a5 a6 a7 a8 a9 a10 := by
  have hn := hP.1
  have hv : vp_in (nI p) 14 := pk_in p 14 (by omega)
  unfold wX_faultsAt_24
  exact br_c (fun _ => ac_f64 hP hp hx h3 H) (fun _ => ⟨hv, hv, ac_carried (by omega) (fun r => br_c (fun _ => nm_e (ac_f64 hP hp hx (ac_s4_1 h3) H)) (fun _ => ac_f64 hP hp hx h3 H))⟩)
theorem ac_faultsAt {post : Int32 → Prop} {n p : Nat} (hP : ac_P n a1 a3 a4) (hp : p < n) (H : ∀ r, (r.toInt8.toInt32 = 0 → ac_nl n a1 a4 p) → post r) : wpX_faultsAt post (nI n, ck, wt, st, pc, ch, fk, oc, a1, a2, a3, a4, a5, a6, a7, a8, a9, a10) (nI p) := by
  have hn := hP.1
  unfold wpX_faultsAt
  rw [nI_clamp (show p < 2 ^ 31 by omega)]
  exact ⟨pk_in p 14 (by omega), nm_e (br_c (fun _ => ac_f24 hP hp rfl ac_s4_0 H) (fun _ => br_c (fun _ => ac_f24 hP hp rfl ac_s4_0 H) (fun _ => ac_f24 hP hp rfl ac_s4_0 H)))⟩
/-! the three loops of check -/
theorem ac_l116 {post : St1 → Prop} {n : Nat} (hP : ac_P n a1 a3 a4) (H : ∀ a8' : Nat → Int32, (∀ j, j < n → ¬ a5 j = 0 → a8' j = 0 → ac_nl n a1 a4 j) → post (nI n, ck, wt, st, pc, ch, fk, oc, a1, a2, a3, a4, a5, a6, a7, a8', a9, a10)) : ∃ m, wX_check_116 post (nI n) ck wt st pc ch fk oc m 0 a1 a2 a3 a4 a5 a6 a7 a8 a9 a10 := by
  have hn := hP.1
  refine pk_loop (fun m i s => wX_check_116 post (nI n) ck wt st pc ch fk oc m (nI i) a1 a2 a3 a4 a5 a6 a7 s a9 a10) (fun i s => ∀ j, j < i → ¬ a5 j = 0 → s j = 0 → ac_nl n a1 a4 j) n 0 a8 (by omega) (fun j hj => absurd hj (by omega)) (fun m s h => pk_le n n (fun _ => H s h) (fun z => absurd z (by omega))) (fun m i s hi h hw => pk_le n i (fun z => absurd z (by omega)) (fun _ => ?_))
  have hv : vp_in (nI i) 14 := pk_in i 14 (by omega)
  have hc : (nI i).toNatClampNeg = i := nI_clamp (by omega)
  rw [hc]
  refine ⟨hv, br_c (fun e => nm_r (nI_1 i) (hw s (fun j hj h5 h8 => ?_))) (fun e => ac_faultsAt hP hi (fun r hr => ⟨hv, nm_e (nm_r (nI_1 i) (hw _ (fun j hj h5 h8 => ?_)))⟩))⟩
  · by_cases ej : j = i
    · rw [ej] at h5
      exact absurd e h5
    · exact h j (by omega) h5 h8
  · by_cases ej : j = i
    · rw [ej, pk_us] at h8
      rw [ej]
      exact hr h8
    · rw [pk_un ej] at h8
      exact h j (by omega) h5 h8
theorem ac_l70 {post : St1 → Prop} {n : Nat} (hP : ac_P n a1 a3 a4) (hK : ac_K n 0 wt a5 a6 a7) (h0 : ¬ a5 0 = 0) (hl : ∀ j, j < n → ¬ a5 j = 0 → ac_bt wt j = true ∨ ac_cl n a1 a4 a5 j)
    (H : ∀ (wt' : Int32) (a5' a6' a7' a8' : Nat → Int32), ac_C n a1 a4 a5' a6' a7' a8' → post (nI n, ck, wt', st, pc, ch, fk, oc, a1, a2, a3, a4, a5', a6', a7', a8', a9, a10)) : ∃ m, wX_check_70 post m 0 (nI n) ck wt st pc ch fk oc a1 a2 a3 a4 a5 a6 a7 a8 a9 a10 := by
  have hn := hP.1
  refine lp5 (fun m x w b5 b6 b7 => wX_check_70 post m x (nI n) ck w st pc ch fk oc a1 a2 a3 a4 b5 b6 b7 a8 a9 a10)
    (fun x w b5 b6 b7 => ∃ r q, x = nI r ∧ r ≤ q ∧ q ≤ 14 ∧ ac_K n q w b5 b6 b7 ∧ ¬ b5 0 = 0 ∧ ∀ j, j < n → ¬ b5 j = 0 → ac_bt w j = true ∨ ac_cl n a1 a4 b5 j)
    (fun x _ _ _ _ => 20 - x.toNatClampNeg) ?_ 0 wt a5 a6 a7 ⟨0, 0, rfl, Nat.le_refl _, by omega, hK, h0, hl⟩
  intro m x w b5 b6 b7 hI hw
  obtain ⟨r, q, rfl, hr, hq, hK, h50, hcl⟩ := hI
  by_cases hw0 : w = 0
  · refine pk_le 600 r (fun z => absurd z (by omega)) (fun _ => br_t hw0 (ac_l116 hP (fun a8' h8 => H _ _ _ _ _ ⟨hK.1, h50, hK.2.2, fun j hj h5 => (hcl j hj h5).resolve_left (fun z => ?_), h8⟩)))
    rw [hw0, ac_b0] at z
    exact absurd z (by decide)
  · obtain ⟨j, ⟨hj, hjb⟩, hjl⟩ := pk_least (fun j => j < 32 ∧ ac_bt w j = true) (ac_nz hw0)
    obtain ⟨hqj, hjn, hj5⟩ := hK.2.1 j hj hjb
    have hjl' : ∀ i, i < j → ac_bt w i = false := fun i hi => by
      cases e : ac_bt w i with
      | false => rfl
      | true => exact absurd ⟨by omega, e⟩ (hjl i hi)
    refine pk_le 600 r (fun z => absurd z (by omega)) (fun _ => br_f hw0 (ac_least (show j < 14 by omega) hjb hjl' (nm_e ?_)))
    refine ac_spread hP hjn hj5 ⟨hK.1, fun i hi hb => ?_, hK.2.2⟩ (fun w' c5 c6 c7 k' t' cl' => nm_r (nI_1 r) (hw _ _ _ _ _ ⟨r + 1, j + 1, rfl, by omega, by omega, k', t'.1 _ h50, fun i hi h5 => ?_⟩ ?_))
    · obtain ⟨hb1, hb2⟩ := (ac_bclr w (by omega) hi).mp hb
      obtain ⟨h1, h2, h3⟩ := hK.2.1 i hi hb1
      refine ⟨?_, h2, h3⟩
      rcases Nat.lt_or_ge i j with z | z
      · rw [hjl' i z] at hb1
        exact absurd hb1 (by decide)
      · omega
    · rcases t'.2.2 i hi h5 with z | z
      · rcases hcl i hi z with y | y
        · by_cases e : i = j
          · rw [e]
            exact Or.inr cl'
          · exact Or.inl (t'.2.1 i (by omega) ((ac_bclr w (by omega) (by omega)).mpr ⟨y, e⟩))
        · exact Or.inr (ac_cl_up y t'.1)
      · exact Or.inl z
    · rw [nI_clamp (show r + 1 < 2 ^ 31 by omega), nI_clamp (show r < 2 ^ 31 by omega)]
      omega
theorem ac_l15 {post : St1 → Prop} {n : Nat} (hP : ac_P n a1 a3 a4) (h0 : 0 < n)
    (H : ∀ (wt' : Int32) (a5' a6' a7' a8' : Nat → Int32), ac_C n a1 a4 a5' a6' a7' a8' → post (nI n, ck, wt', st, pc, ch, fk, oc, a1, a2, a3, a4, a5', a6', a7', a8', a9, a10)) : ∃ m, wX_check_15 post (nI n) ck wt st pc ch fk oc m 0 a1 a2 a3 a4 a5 a6 a7 a8 a9 a10 := by
  have hn := hP.1
  refine pk_loop (fun m i (s : (Nat → Int32) × (Nat → Int32) × (Nat → Int32) × (Nat → Int32)) => wX_check_15 post (nI n) ck wt st pc ch fk oc m (nI i) a1 a2 a3 a4 s.1 s.2.1 s.2.2.1 s.2.2.2 a9 a10) (fun i s => ∀ j, j < i → s.1 j = 0) 14 0 (a5, a6, a7, a8) (by omega) (fun j hj => absurd hj (by omega)) (fun m s h => pk_le 14 14 (fun _ => ?_) (fun z => absurd z (by omega))) (fun m i s hi h hw => pk_le 14 i (fun z => absurd z (by omega)) (fun _ => ?_))
  · refine ac_come (m := 0) (k := 0) hn (by omega) (Nat.le_refl _) ⟨fun j hj => Or.inl (h j hj), fun j hj hb => ?_, fun j hj h5 => absurd (h j (by omega)) h5⟩ ac_sub_rfl (fun wt' a5' a6' a7' k' t' c' => ac_l70 hP k' (c' h0) (fun j hj h5 => ?_) H)
    · rw [ac_b0] at hb
      exact absurd hb (by decide)
    · exact Or.inl ((t'.2.2 j hj h5).resolve_left (fun z => z (h j (by omega))))
  · have hv : vp_in (nI i) 14 := pk_in i 14 hi
    have hc : (nI i).toNatClampNeg = i := nI_clamp (by omega)
    rw [hc]
    refine ⟨hv, nm_e ⟨hv, nm_e ⟨hv, nm_e ⟨hv, nm_e (nm_r (nI_1 i) (hw (_, _, _, _) (fun j hj => ?_)))⟩⟩⟩⟩
    show upd s.1 i 0 j = 0
    by_cases e : j = i
    · rw [e, pk_us]
    · rw [pk_un e]
      exact h j (by omega)
/-- nothing changes if the object is checked already -/
def ac_E (ck wt : Int32) (a5 a6 a7 a8 : Nat → Int32) (ck' wt' : Int32) (a5' a6' a7' a8' : Nat → Int32) : Prop := ¬ ck = 0 → ck' = ck ∧ wt' = wt ∧ a5' = a5 ∧ a6' = a6 ∧ a7' = a7 ∧ a8' = a8
theorem ac_check {post : St1 → Prop} {n : Nat} (hP : ac_P n a1 a3 a4) (h0 : 0 < n) (hc : ck = 0 ∨ ac_C n a1 a4 a5 a6 a7 a8)
    (H : ∀ (ck' wt' : Int32) (a5' a6' a7' a8' : Nat → Int32), ¬ ck' = 0 → ac_C n a1 a4 a5' a6' a7' a8' → ac_E ck wt a5 a6 a7 a8 ck' wt' a5' a6' a7' a8' → post (nI n, ck', wt', st, pc, ch, fk, oc, a1, a2, a3, a4, a5', a6', a7', a8', a9, a10)) : wpX_check post (nI n, ck, wt, st, pc, ch, fk, oc, a1, a2, a3, a4, a5, a6, a7, a8, a9, a10) := by
  unfold wpX_check
  exact br_c (fun e => ac_l15 hP h0 (fun wt' a5' a6' a7' a8' hC => H _ _ _ _ _ _ ac_ne10 hC (fun z => absurd e z))) (fun e => H _ _ _ _ _ _ e (hc.resolve_left e) (fun _ => ⟨rfl, rfl, rfl, rfl, rfl, rfl⟩))
end
end
section
/-! sound and the law's facts -/
def ac_V (n : Nat) (r : Int32) (a8 : Nat → Int32) : Prop := (r = 1 ∧ ∀ j, j < n → a8 j = 0) ∨ (r = 0 ∧ ∃ j, j < n ∧ ¬ a8 j = 0)
theorem ac_V_det {n : Nat} {r r' : Int32} {a8 : Nat → Int32} (h : ac_V n r a8) (h' : ac_V n r' a8) : r = r' := by
  rcases h with ⟨e, g⟩ | ⟨e, j, hj, g⟩
  · rcases h' with ⟨e', _⟩ | ⟨e', j, hj, g'⟩
    · rw [e, e']
    · exact absurd (g j hj) g'
  · rcases h' with ⟨e', g'⟩ | ⟨e', _⟩
    · exact absurd (g' j hj) g
    · rw [e, e']
theorem ac_nbo {x : Int32} (h : x = 0 ∨ x = 1) : narrow .boolean (.int x) = .int x := by
  rcases h with e | e <;> subst e <;> rfl
section
variable {sz ck wt st pc ch fk oc : Int32} {a1 a2 a3 a4 a5 a6 a7 a8 a9 a10 : Nat → Int32}
theorem ac_l_so {post : Int32 → St1 → Prop} {n : Nat} (hn : n ≤ 14) (H : ∀ r, ac_V n r a8 → post r (nI n, ck, wt, st, pc, ch, fk, oc, a1, a2, a3, a4, a5, a6, a7, a8, a9, a10)) : ∃ m, wX_sound_15 post (nI n) ck wt st pc ch fk oc a1 a2 a3 a4 a5 a6 a7 a8 a9 a10 m 0 := by
  refine pk_loop (σ := Unit) (fun m i _ => wX_sound_15 post (nI n) ck wt st pc ch fk oc a1 a2 a3 a4 a5 a6 a7 a8 a9 a10 m (nI i)) (fun i _ => ∀ j, j < i → a8 j = 0) n 0 () (by omega) (fun j hj => absurd hj (by omega)) (fun m _ h => pk_le n n (fun _ => H 1 (Or.inl ⟨rfl, h⟩)) (fun z => absurd z (by omega))) (fun m i _ hi h hw => pk_le n i (fun z => absurd z (by omega)) (fun _ => ?_))
  have hc : (nI i).toNatClampNeg = i := nI_clamp (by omega)
  rw [hc]
  exact ⟨pk_in i 14 (by omega), br_c (fun e => nm_r (nI_1 i) (hw () (lt_s h e))) (fun e => H 0 (Or.inr ⟨rfl, i, hi, e⟩))⟩
theorem ac_sound {post : Int32 → St1 → Prop} {n : Nat} (hP : ac_P n a1 a3 a4) (hc : ck = 0 ∨ ac_C n a1 a4 a5 a6 a7 a8) (H0 : n = 0 → post 0 (nI n, ck, wt, st, pc, ch, fk, oc, a1, a2, a3, a4, a5, a6, a7, a8, a9, a10))
    (H : 0 < n → ∀ (r ck' wt' : Int32) (a5' a6' a7' a8' : Nat → Int32), ¬ ck' = 0 → ac_C n a1 a4 a5' a6' a7' a8' → ac_E ck wt a5 a6 a7 a8 ck' wt' a5' a6' a7' a8' → ac_V n r a8' → post r (nI n, ck', wt', st, pc, ch, fk, oc, a1, a2, a3, a4, a5', a6', a7', a8', a9, a10)) : wpX_sound post (nI n, ck, wt, st, pc, ch, fk, oc, a1, a2, a3, a4, a5, a6, a7, a8, a9, a10) := by
  have hn := hP.1
  unfold wpX_sound
  exact pk_eq n 0 H0 (fun z => ac_check hP (by omega) hc (fun ck' wt' a5' a6' a7' a8' hk hC hE => ac_l_so hn (fun r hV => H (by omega) _ _ _ _ _ _ _ hk hC hE hV)))
theorem ac_reached {post : Int32 → St1 → Prop} {n p : Nat} (hP : ac_P n a1 a3 a4) (hc : ck = 0 ∨ ac_C n a1 a4 a5 a6 a7 a8) (hp : p < n)
    (H : ∀ (ck' wt' : Int32) (a5' a6' a7' a8' : Nat → Int32), ¬ ck' = 0 → ac_C n a1 a4 a5' a6' a7' a8' → ac_E ck wt a5 a6 a7 a8 ck' wt' a5' a6' a7' a8' → post (a5' p) (nI n, ck', wt', st, pc, ch, fk, oc, a1, a2, a3, a4, a5', a6', a7', a8', a9, a10)) : wpX_reached post (nI n, ck, wt, st, pc, ch, fk, oc, a1, a2, a3, a4, a5, a6, a7, a8, a9, a10) (nI p) := by
  have hn := hP.1
  have e : (nI p).toNatClampNeg = p := nI_clamp (by omega)
  unfold wpX_reached
  rw [e]
  exact ac_inside (by omega) (by omega) (fun z => absurd z (by omega)) (fun _ => br_f ac_ne10 (ac_check hP (by omega) hc (fun ck' wt' a5' a6' a7' a8' hk hC hE => ⟨pk_in p 14 (by omega), ac_nbo (hC.1 p (by omega)), H _ _ _ _ _ _ hk hC hE⟩)))
theorem ac_faults {post : Int32 → St1 → Prop} {n p : Nat} (hn : n ≤ 14) (hk : ¬ ck = 0) (hp : p < n) (H : post (a8 p) (nI n, ck, wt, st, pc, ch, fk, oc, a1, a2, a3, a4, a5, a6, a7, a8, a9, a10)) : wpX_faults post (nI n, ck, wt, st, pc, ch, fk, oc, a1, a2, a3, a4, a5, a6, a7, a8, a9, a10) (nI p) := by
  have e : (nI p).toNatClampNeg = p := nI_clamp (by omega)
  unfold wpX_faults
  rw [e]
  exact ac_inside (by omega) (by omega) (fun z => absurd z (by omega)) (fun _ => br_f ac_ne10 (br_f hk ⟨pk_in p 14 (by omega), H⟩))
theorem ac_carries {post : Int32 → St1 → Prop} {n p q : Nat} (hn : n ≤ 14) (hk : ¬ ck = 0) (hp : p < n) (hq : q < 5) (hb : a5 p = 0 ∨ a5 p = 1) (H0 : a5 p = 0 → post 0 (nI n, ck, wt, st, pc, ch, fk, oc, a1, a2, a3, a4, a5, a6, a7, a8, a9, a10))
    (H1 : ¬ a5 p = 0 → post (((a6 p >>> ((4 * nI q) &&& 31)) &&& 15) ||| (((a7 p >>> ((4 * nI q) &&& 31)) &&& 15) <<< ((4 : Int32) &&& 31))) (nI n, ck, wt, st, pc, ch, fk, oc, a1, a2, a3, a4, a5, a6, a7, a8, a9, a10)) : wpX_carries post (nI n, ck, wt, st, pc, ch, fk, oc, a1, a2, a3, a4, a5, a6, a7, a8, a9, a10) (nI p) (nI q) := by
  have e : (nI p).toNatClampNeg = p := nI_clamp (by omega)
  have hv : vp_in (nI p) 14 := pk_in p 14 (by omega)
  unfold wpX_carries wpX_isPlace
  refine br_f (nI_pos (by omega)) (pk_le 5 q (fun z => absurd z (by omega)) (fun _ => br_f ac_ne10 ?_))
  unfold wpX_reached
  rw [e]
  exact ac_inside (by omega) (by omega) (fun z => absurd z (by omega)) (fun _ => br_f ac_ne10 (br_f hk ⟨hv, ac_nbo hb, br_c (fun z => H0 z) (fun z => ⟨hv, nm_e ⟨hv, nm_e (H1 z)⟩⟩)⟩))
theorem ac_l42 {post : Int32 → St1 → Prop} {J : Int32 → Int32 → Int32 → Int32 → Int32 → Int32 → Int32 → Int32 → Int32 → Int32 → (Nat → Int32) → (Nat → Int32) → (Nat → Int32) → (Nat → Int32) → (Nat → Int32) → (Nat → Int32) → (Nat → Int32) → (Nat → Int32) → (Nat → Int32) → (Nat → Int32) → Prop} {n p : Nat} {x1 x2 : Int32} (hn : n ≤ 14) (hk : ¬ ck = 0) (hC : ac_C n a1 a4 a5 a6 a7 a8) (hp : p < n)
    (H : J x2 (nI (p + 1)) (nI n) ck wt st pc ch fk oc a1 a2 a3 a4 a5 a6 a7 a8 a9 a10) : ∃ m, wL_facts_42 post J x1 x2 (nI p) (a5 p) m 0 (nI n) ck wt st pc ch fk oc a1 a2 a3 a4 a5 a6 a7 a8 a9 a10 := by
  refine pk_loop (σ := Unit) (fun m i _ => wL_facts_42 post J x1 x2 (nI p) (a5 p) m (nI i) (nI n) ck wt st pc ch fk oc a1 a2 a3 a4 a5 a6 a7 a8 a9 a10) (fun _ _ => True) 5 0 () (by omega) trivial (fun m _ _ => pk_le 5 5 (fun _ => nm_r (nI_1 p) H) (fun z => absurd z (by omega))) (fun m i _ hi _ hw => pk_le 5 i (fun z => absurd z (by omega)) (fun _ => ?_))
  refine ac_carries hn hk hp hi (hC.1 p (by omega)) (fun z => nm_e (nm_e ?_)) (fun z => nm_e (nm_e ?_))
  · exact br_t (by decide) (br_t z (br_t rfl (nm_r (nI_1 i) (hw () trivial))))
  · exact br_t (ac_row (hC.2.2.1 p hp z)) (br_f z (nm_r (nI_1 i) (hw () trivial)))
theorem ac_V_s0 {i : Nat} {a8 : Nat → Int32} (h : ac_V i 0 a8) : ac_V (i + 1) 0 a8 := by
  rcases h with ⟨e, _⟩ | ⟨_, j, hj, g⟩
  · exact absurd e (by decide)
  · exact Or.inr ⟨rfl, j, by omega, g⟩
theorem ac_V_s1 {i : Nat} {x : Int32} {a8 : Nat → Int32} (h : ac_V i x a8) (hx : ¬ x = 0) (h8 : a8 i = 0) : ac_V (i + 1) 1 a8 := by
  rcases h with ⟨_, g⟩ | ⟨e, _⟩
  · exact Or.inl ⟨rfl, lt_s g h8⟩
  · exact absurd e hx
theorem ac_V_s2 {i : Nat} {a8 : Nat → Int32} (h8 : ¬ a8 i = 0) : ac_V (i + 1) 0 a8 := Or.inr ⟨rfl, i, by omega, h8⟩
theorem ac_V_ch {i : Nat} {x ck wt ck' wt' : Int32} {a5 a6 a7 a8 a5' a6' a7' a8' : Nat → Int32} (h : ac_V i x a8) (h0 : 0 < i → ¬ ck = 0) (hE : ac_E ck wt a5 a6 a7 a8 ck' wt' a5' a6' a7' a8') : ac_V i x a8' := by
  rcases Nat.eq_zero_or_pos i with z | z
  · subst z
    rcases h with ⟨e, _⟩ | ⟨_, j, hj, _⟩
    · exact Or.inl ⟨e, fun j hj => absurd hj (by omega)⟩
    · exact absurd hj (by omega)
  · rw [(hE (h0 z)).2.2.2.2.2]
    exact h
theorem ac_l9 {post : Int32 → St1 → Prop} {n : Nat} (hP : ac_P n a1 a3 a4) (hc : ck = 0 ∨ ac_C n a1 a4 a5 a6 a7 a8) (H : ∀ u, ac_J u → post 1 u) : ∃ m, wL_facts_9 post (nI n) m 1 0 (nI n) ck wt st pc ch fk oc a1 a2 a3 a4 a5 a6 a7 a8 a9 a10 := by
  have hn := hP.1
  refine pk_loop (fun m i (s : Int32 × Int32 × Int32 × (Nat → Int32) × (Nat → Int32) × (Nat → Int32) × (Nat → Int32)) => wL_facts_9 post (nI n) m s.1 (nI i) (nI n) s.2.1 s.2.2.1 st pc ch fk oc a1 a2 a3 a4 s.2.2.2.1 s.2.2.2.2.1 s.2.2.2.2.2.1 s.2.2.2.2.2.2 a9 a10)
    (fun i s => (s.2.1 = 0 ∨ ac_C n a1 a4 s.2.2.2.1 s.2.2.2.2.1 s.2.2.2.2.2.1 s.2.2.2.2.2.2) ∧ (0 < i → ¬ s.2.1 = 0) ∧ ac_V i s.1 s.2.2.2.2.2.2) n 0 (1, ck, wt, a5, a6, a7, a8) (by omega) ⟨hc, fun z => absurd z (by omega), Or.inl ⟨rfl, fun j hj => absurd hj (by omega)⟩⟩ ?_ ?_
  · rintro m ⟨x, ck, wt, a5, a6, a7, a8⟩ ⟨hc, h0, hV⟩
    dsimp only at hc h0 hV
    refine pk_le n n (fun _ => ?_) (fun z => absurd z (by omega))
    refine ac_sound hP hc (fun z => ?_) (fun z r ck' wt' a5' a6' a7' a8' hk hC hE hV' => ?_)
    · subst z
      exact br_t (by decide) (br_t rfl (H _ ⟨0, rfl, hP, hc⟩))
    · rw [(hE (h0 z)).2.2.2.2.2] at hV'
      have er := ac_V_det hV hV'
      subst er
      have hJ : ac_J (nI n, ck', wt', st, pc, ch, fk, oc, a1, a2, a3, a4, a5', a6', a7', a8', a9, a10) := ⟨n, rfl, hP, Or.inr hC⟩
      refine br_f (nI_nle z (by omega)) (br_c (fun e => br_t e (H _ hJ)) (fun e => br_t ?_ (H _ hJ)))
      rcases hV with ⟨e', _⟩ | ⟨e', _⟩
      · exact e'
      · exact absurd e' e
  · rintro m i ⟨x, ck, wt, a5, a6, a7, a8⟩ hi ⟨hc, h0, hV⟩ hw
    dsimp only at hc h0 hV
    refine pk_le n i (fun z => absurd z (by omega)) (fun _ => ?_)
    refine ac_reached hP hc hi (fun ck' wt' a5' a6' a7' a8' hk hC hE => ?_)
    have hV' := ac_V_ch hV h0 hE
    refine br_c (fun e => ac_l42 hn hk hC hi (hw (0, ck', wt', a5', a6', a7', a8') ⟨Or.inr hC, fun _ => hk, ac_V_s0 (e ▸ hV')⟩)) (fun e => ac_faults hn hk hi (br_c (fun e8 => ?_) (fun e8 => ?_)))
    · exact ac_l42 hn hk hC hi (hw (1, ck', wt', a5', a6', a7', a8') ⟨Or.inr hC, fun _ => hk, ac_V_s1 hV' e e8⟩)
    · exact ac_l42 hn hk hC hi (hw (0, ck', wt', a5', a6', a7', a8') ⟨Or.inr hC, fun _ => hk, ac_V_s2 e8⟩)
theorem ac_facts {post : Int32 → St1 → Prop} (hJ : ac_J (sz, ck, wt, st, pc, ch, fk, oc, a1, a2, a3, a4, a5, a6, a7, a8, a9, a10)) (H : ∀ u, ac_J u → post 1 u) : wpL_facts post (sz, ck, wt, st, pc, ch, fk, oc, a1, a2, a3, a4, a5, a6, a7, a8, a9, a10) := by
  obtain ⟨n, rfl, hP, hc⟩ := hJ
  unfold wpL_facts
  exact ac_l9 hP hc H
end
end
section
/-! the machine side: a met position of a sound program has its next one inside and met -/
def ac_Q (n : Nat) (a1 a3 a4 a5 : Nat → Int32) : Prop := ∀ j, j < n → ¬ a5 j = 0 → ac_okp (a3 j) ∧ ((a1 j = 5 ∨ a1 j = 6) → ∃ k, k < n ∧ a4 j = nI k ∧ ¬ a5 k = 0) ∧ (¬ a1 j = 6 → ¬ a1 j = 7 → j + 1 < n ∧ ¬ a5 (j + 1) = 0)
theorem ac_Q_of {n : Nat} {a1 a3 a4 a5 a6 a7 a8 : Nat → Int32} (hP : ac_P n a1 a3 a4) (hC : ac_C n a1 a4 a5 a6 a7 a8) (h8 : ∀ j, j < n → a8 j = 0) : ac_Q n a1 a3 a4 a5 := by
  obtain ⟨_, _, _, hcl, hnl⟩ := hC
  intro j hj h5
  have c := hcl j hj h5
  have l := hnl j hj h5 (h8 j hj)
  refine ⟨(hP.2 j hj).1, fun o => ?_, fun o o' => ⟨l.2 o o', c.2 o o' (l.2 o o')⟩⟩
  obtain ⟨k, hk, ek⟩ := l.1 o
  exact ⟨k, hk, ek, c.1 o k hk ek⟩
section
variable {sz ck wt st pc ch fk oc : Int32} {a1 a2 a3 a4 a5 a6 a7 a8 a9 a10 : Nat → Int32}
theorem ac_put {post : St1 → Prop} {t : Nat} {x : Int32} (ht : t < 14) (hl : vp_in (a3 t &&& 7) 5) (H : ∀ a9' : Nat → Int32, post (sz, ck, wt, st, nI t, ch, fk, oc, a1, a2, a3, a4, a5, a6, a7, a8, a9', a10)) : wpX_put post (sz, ck, wt, st, nI t, ch, fk, oc, a1, a2, a3, a4, a5, a6, a7, a8, a9, a10) x := by
  unfold wpX_put
  dsimp only
  rw [nI_clamp (show t < 2 ^ 31 by omega)]
  exact ⟨pk_in t 14 ht, hl, nm_e (H _)⟩
theorem ac_putOut {post : St1 → Prop} {x : Int32} (H : ∀ a10' : Nat → Int32, post (sz, ck, wt, st, pc, ch, fk, oc + 1, a1, a2, a3, a4, a5, a6, a7, a8, a9, a10')) : wpX_putOut post (sz, ck, wt, st, pc, ch, fk, oc, a1, a2, a3, a4, a5, a6, a7, a8, a9, a10) x := by
  unfold wpX_putOut
  refine ⟨8, pk_loopD (fun m i s => wX_putOut_3 post x sz ck wt st pc ch fk oc m (nI i) a1 a2 a3 a4 a5 a6 a7 a8 a9 s) (fun i _ => i ≤ 7) (fun m s _ => br_t (by decide) (nm_e (nm_e (H _)))) (fun m i s hi hw => pk_le (i + 1) 0 (fun z => absurd z (by omega)) (fun _ => ⟨?_, pk_in (i + 1) 8 (by omega), nm_e (nm_r (pk_m1 i) (hw _ (by omega)))⟩)) 7 a10 (Nat.le_refl _)⟩
  rw [nI_pred]
  exact pk_in i 8 (by omega)
theorem ac_decide {post : Int32 → St1 → Prop} (H : ∀ r fk' : Int32, post r (sz, ck, wt, st, pc, ch, fk', oc, a1, a2, a3, a4, a5, a6, a7, a8, a9, a10)) : wpX_decide post (sz, ck, wt, st, pc, ch, fk, oc, a1, a2, a3, a4, a5, a6, a7, a8, a9, a10) := by
  unfold wpX_decide
  exact br_c (fun _ => nm_e ⟨ac_nbo (Or.inl rfl), H _ _⟩) (fun _ => nm_e ⟨ac_nbo (Or.inr rfl), H _ _⟩)
theorem ac_c161 {post : St1 → Prop} {n t : Nat} (hn : n ≤ 14) (ht : t < n) (hk : ∃ k, k < n ∧ a4 t = nI k ∧ ¬ a5 k = 0) (H : ∀ t', t' < n → ¬ a5 t' = 0 → post (sz, ck, wt, st, nI t', ch, fk, oc, a1, a2, a3, a4, a5, a6, a7, a8, a9, a10)) : wX_carry_161 post sz ck wt st (nI t) ch fk oc a1 a2 a3 a4 a5 a6 a7 a8 a9 a10 := by
  obtain ⟨k, hk, ek, h5⟩ := hk
  unfold wX_carry_161
  rw [nI_clamp (show t < 2 ^ 31 by omega)]
  exact ⟨pk_in t 14 (by omega), nm_r ek (H k hk h5)⟩
theorem ac_carry {post : St1 → Prop} {n t : Nat} (hn : n ≤ 14) (hQ : ac_Q n a1 a3 a4 a5) (ht : t < n) (h5 : ¬ a5 t = 0)
    (H : ∀ (st' fk' oc' : Int32) (a9' a10' : Nat → Int32) (t' : Nat), t' < n → ¬ a5 t' = 0 → (oc' = oc ∨ oc' = oc + 1) → post (sz, ck, wt, st', nI t', ch, fk', oc', a1, a2, a3, a4, a5, a6, a7, a8, a9', a10')) : wpX_carry post (sz, ck, wt, st, nI t, ch, fk, oc, a1, a2, a3, a4, a5, a6, a7, a8, a9, a10) := by
  obtain ⟨⟨l0, l1, l2⟩, hj, hs⟩ := hQ t ht h5
  have hv : vp_in (nI t) 14 := pk_in t 14 (by omega)
  unfold wpX_carry
  dsimp only
  rw [nI_clamp (show t < 2 ^ 31 by omega)]
  refine ⟨hv, nm_e ⟨hv, nm_e (nm_r (nI_1 t) ?_)⟩⟩
  refine br_c (fun e7 => H _ _ _ _ _ _ ht h5 (Or.inl rfl)) (fun e7 => br_c (fun e => ⟨hv, ?_⟩) (fun e0 => br_c (fun e => ⟨hv, nm_e ⟨l1, l2, ?_⟩⟩) (fun e1 => br_c (fun e => ⟨l1, ?_⟩) (fun e2 => br_c (fun e => ⟨l1, ?_⟩) (fun e3 => br_c (fun e => ?_) (fun e6 => br_c (fun e => ?_) (fun e5 => ?_)))))))
  · obtain ⟨g1, g2⟩ := hs (by rw [e]; decide) e7
    exact ac_put (by omega) l0 (fun _ => H _ _ _ _ _ _ g1 g2 (Or.inl rfl))
  · obtain ⟨g1, g2⟩ := hs (by rw [e]; decide) e7
    exact ac_put (by omega) l0 (fun _ => H _ _ _ _ _ _ g1 g2 (Or.inl rfl))
  · obtain ⟨g1, g2⟩ := hs (by rw [e]; decide) e7
    exact ac_put (by omega) l0 (fun _ => H _ _ _ _ _ _ g1 g2 (Or.inl rfl))
  · obtain ⟨g1, g2⟩ := hs (by rw [e]; decide) e7
    exact ac_putOut (fun _ => H _ _ _ _ _ _ g1 g2 (Or.inr rfl))
  · exact ac_c161 hn ht (hj (Or.inr e)) (fun t' g1 g2 => H _ _ _ _ _ _ g1 g2 (Or.inl rfl))
  · obtain ⟨g1, g2⟩ := hs e6 e7
    exact ac_decide (fun r fk' => br_c (fun _ => H _ _ _ _ _ _ g1 g2 (Or.inl rfl)) (fun _ => ac_c161 hn ht (hj (Or.inl e)) (fun t' g1 g2 => H _ _ _ _ _ _ g1 g2 (Or.inl rfl))))
  · obtain ⟨g1, g2⟩ := hs e6 e7
    exact H _ _ _ _ _ _ g1 g2 (Or.inl rfl)
theorem ac_step {post : Int32 → St1 → Prop} {n t b c : Nat} (hn : n ≤ 14) (hQ : ac_Q n a1 a3 a4 a5) (ht : t < n) (h5 : ¬ a5 t = 0) (hb : b < 2 ^ 31)
    (H : ∀ (i d t' : Nat) (st' fk' : Int32) (a9' a10' : Nat → Int32), i ≤ 64 → d ≤ i → t' < n → ¬ a5 t' = 0 → post (nI i) (sz, ck, wt, st', nI t', ch, fk', nI (c + d), a1, a2, a3, a4, a5, a6, a7, a8, a9', a10')) : wpX_step post (sz, ck, wt, st, nI t, ch, fk, nI c, a1, a2, a3, a4, a5, a6, a7, a8, a9, a10) (nI b) := by
  unfold wpX_step
  refine pk_loop (fun m i (s : Int32 × Int32 × Int32 × Int32 × (Nat → Int32) × (Nat → Int32)) => wX_step_4 post (nI b) m (nI i) (nI i) sz ck wt s.1 s.2.1 ch s.2.2.1 s.2.2.2.1 a1 a2 a3 a4 a5 a6 a7 a8 s.2.2.2.2.1 s.2.2.2.2.2)
    (fun i s => ∃ t d, s.2.1 = nI t ∧ t < n ∧ ¬ a5 t = 0 ∧ s.2.2.2.1 = nI (c + d) ∧ d ≤ i) 64 0 (st, nI t, fk, nI c, a9, a10) (by omega) ⟨t, 0, rfl, ht, h5, rfl, Nat.le_refl _⟩ ?_ ?_
  · rintro m ⟨st, pc, fk, oc, a9, a10⟩ ⟨t, d, e1, ht, h5, e2, hd⟩
    dsimp only at e1 e2
    subst e1 e2
    exact pk_le 64 64 (fun _ => H _ _ _ _ _ _ _ (by omega) hd ht h5) (fun z => absurd z (by omega))
  · rintro m i ⟨st, pc, fk, oc, a9, a10⟩ hi ⟨t, d, e1, ht, h5, e2, hd⟩ hw
    dsimp only at e1 e2
    subst e1 e2
    refine pk_le 64 i (fun z => absurd z (by omega)) (fun _ => pk_le b i (fun _ => H _ _ _ _ _ _ _ (by omega) hd ht h5) (fun _ => br_c (fun _ => ?_) (fun _ => H _ _ _ _ _ _ _ (by omega) hd ht h5)))
    refine ac_carry hn hQ ht h5 (fun st' fk' oc' a9' a10' t' g1 g2 g3 => nm_r (nI_1 i) (nm_r (nI_1 i) (hw (st', nI t', fk', oc', a9', a10') ?_)))
    rcases g3 with g | g
    · exact ⟨t', d, rfl, g1, g2, g, by omega⟩
    · exact ⟨t', d + 1, rfl, g1, g2, g.trans (nI_1 (c + d)), by omega⟩
theorem ac_l36 {post : Int32 → St1 → Prop} (H : ∀ a9' : Nat → Int32, post 1 (sz, ck, wt, st, pc, ch, fk, oc, a1, a2, a3, a4, a5, a6, a7, a8, a9', a10)) : ∃ m, wX_start_36 post sz ck wt st pc ch fk oc m 0 a1 a2 a3 a4 a5 a6 a7 a8 a9 a10 :=
  pk_loop (fun m i s => wX_start_36 post sz ck wt st pc ch fk oc m (nI i) a1 a2 a3 a4 a5 a6 a7 a8 s a10) (fun _ _ => True) 5 0 a9 (by omega) trivial (fun m s _ => pk_le 5 5 (fun _ => H s) (fun z => absurd z (by omega))) (fun m i s hi _ hw => pk_le 5 i (fun z => absurd z (by omega)) (fun _ => ⟨pk_in i 5 hi, nm_e (nm_r (nI_1 i) (hw _ trivial))⟩))
theorem ac_r0 {post : Int32 → St1 → Prop} {x4 : Int32} (H : post 1 (sz, ck, wt, st, pc, ch, fk, oc, a1, a2, a3, a4, a5, a6, a7, a8, a9, a10)) : ∃ m, wL_runs_20 post 0 0 m x4 0 sz ck wt st pc ch fk oc a1 a2 a3 a4 a5 a6 a7 a8 a9 a10 := ⟨1, pk_le 6 0 (fun z => absurd z (by omega)) (fun _ => br_t rfl (br_t rfl H))⟩
theorem ac_r1 {post : Int32 → St1 → Prop} {n : Nat} (hP : ac_P n a1 a3 a4) (hC : ac_C n a1 a4 a5 a6 a7 a8) (h0 : 0 < n) (h8 : ∀ j, j < n → a8 j = 0) (H : ∀ u, ac_J u → post 1 u) : ∃ m, wL_runs_20 post 1 1 m 0 0 (nI n) ck wt st 0 ch fk 0 a1 a2 a3 a4 a5 a6 a7 a8 a9 a10 := by
  have hn := hP.1
  have hQ := ac_Q_of hP hC h8
  refine pk_loop (fun m i (s : Int32 × Int32 × Int32 × Int32 × (Nat → Int32) × (Nat → Int32)) => wL_runs_20 post 1 1 m s.2.2.2.1 (nI i) (nI n) ck wt s.1 s.2.1 ch s.2.2.1 s.2.2.2.1 a1 a2 a3 a4 a5 a6 a7 a8 s.2.2.2.2.1 s.2.2.2.2.2)
    (fun i s => ∃ t c, s.2.1 = nI t ∧ t < n ∧ ¬ a5 t = 0 ∧ s.2.2.2.1 = nI c ∧ c ≤ 64 * i) 6 0 (st, 0, fk, 0, a9, a10) (by omega) ⟨0, 0, rfl, h0, hC.2.1, rfl, by omega⟩ ?_ ?_
  · rintro m ⟨st, pc, fk, oc, a9, a10⟩ _
    exact pk_le 6 6 (fun _ => br_t rfl (H _ ⟨n, rfl, hP, Or.inr hC⟩)) (fun z => absurd z (by omega))
  · rintro m i ⟨st, pc, fk, oc, a9, a10⟩ hi ⟨t, c, e1, ht, h5, e2, hc⟩ hw
    dsimp only at e1 e2
    subst e1 e2
    refine pk_le 6 i (fun z => absurd z (by omega)) (fun _ => br_f ac_ne10 ?_)
    rw [nI_1 i]
    refine ac_step hn hQ ht h5 (by omega) (fun k d t' st' fk' a9' a10' hk hd g1 g2 => ?_)
    refine pk_lt (c + d) c (fun z => absurd z (by omega)) (fun _ => pk_le (c + d) (c + k) (fun _ => ?_) (fun z => absurd z (by omega)) rfl (nI_add c k))
    exact nm_e (hw (st', nI t', fk', nI (c + d), a9', a10') ⟨t', c + d, rfl, g1, g2, rfl, by omega⟩)
theorem ac_start {post : Int32 → St1 → Prop} {n : Nat} {x : Int32} (hP : ac_P n a1 a3 a4) (hc : ck = 0 ∨ ac_C n a1 a4 a5 a6 a7 a8) (H0 : n = 0 → post 0 (nI n, ck, wt, st, pc, ch, fk, oc, a1, a2, a3, a4, a5, a6, a7, a8, a9, a10))
    (H : 0 < n → ∀ (r ck' wt' : Int32) (a5' a6' a7' a8' : Nat → Int32), ac_C n a1 a4 a5' a6' a7' a8' → ac_E ck wt a5 a6 a7 a8 ck' wt' a5' a6' a7' a8' → ac_V n r a8' → (r = 0 → post 0 (nI n, ck', wt', st, pc, ch, fk, oc, a1, a2, a3, a4, a5', a6', a7', a8', a9, a10)) ∧ (¬ r = 0 → ∀ a9' : Nat → Int32, post 1 (nI n, ck', wt', 1, 0, x, 0, 0, a1, a2, a3, a4, a5', a6', a7', a8', a9', a10))) : wpX_start post (nI n, ck, wt, st, pc, ch, fk, oc, a1, a2, a3, a4, a5, a6, a7, a8, a9, a10) x := by
  unfold wpX_start
  exact ac_sound hP hc (fun z => br_t rfl (H0 z)) (fun z r ck' wt' a5' a6' a7' a8' _ hC hE hV => br_c (fun e => (H z r ck' wt' a5' a6' a7' a8' hC hE hV).1 e) (fun e => ac_l36 ((H z r ck' wt' a5' a6' a7' a8' hC hE hV).2 e)))
theorem ac_runs {post : Int32 → St1 → Prop} {x : Int32} (hJ : ac_J (sz, ck, wt, st, pc, ch, fk, oc, a1, a2, a3, a4, a5, a6, a7, a8, a9, a10)) (H : ∀ u, ac_J u → post 1 u) : wpL_runs post (sz, ck, wt, st, pc, ch, fk, oc, a1, a2, a3, a4, a5, a6, a7, a8, a9, a10) x := by
  have hJ' := hJ
  obtain ⟨n, rfl, hP, hc⟩ := hJ'
  unfold wpL_runs
  refine ac_sound hP hc (fun z => ?_) (fun z r ck' wt' a5' a6' a7' a8' hk hC hE hV => ?_)
  · exact ac_start hP hc (fun _ => ac_r0 (H _ hJ)) (fun z' => absurd z' (by omega))
  · refine ac_start hP (Or.inr hC) (fun z' => absurd z' (by omega)) (fun _ r' ck'' wt'' a5'' a6'' a7'' a8'' hC' hE' hV' => ?_)
    obtain ⟨e1, e2, e3, e4, e5, e6⟩ := hE' hk
    subst e1 e2 e3 e4 e5 e6
    have er := ac_V_det hV hV'
    subst er
    rcases hV with ⟨e, h8⟩ | ⟨e, _⟩
    · subst e
      exact ⟨fun e => absurd e ac_ne10, fun _ a9' => ac_r1 hP hC z h8 H⟩
    · subst e
      exact ⟨fun _ => ac_r0 (H _ ⟨n, rfl, hP, Or.inr hC⟩), fun e => absurd rfl e⟩
end
end
section
section
variable {sz ck wt st pc ch fk oc : Int32} {a1 a2 a3 a4 a5 a6 a7 a8 a9 a10 : Nat → Int32}
theorem ac_w105 {post : Int32 → Prop} {L : Nat} {xs : Nat → Int32} {J : Int32 → Int32 → Int32 → Int32 → Int32 → Int32 → Int32 → Int32 → Int32 → (Nat → Int32) → (Nat → Int32) → (Nat → Int32) → (Nat → Int32) → (Nat → Int32) → (Nat → Int32) → (Nat → Int32) → (Nat → Int32) → (Nat → Int32) → (Nat → Int32) → Prop} {i kc ks : Nat} (hJ : ac_J (sz, ck, wt, st, pc, ch, fk, oc, a1, a2, a3, a4, a5, a6, a7, a8, a9, a10))
    (H : ∀ (sz ck wt st pc ch fk oc : Int32) (a1 a2 a3 a4 a5 a6 a7 a8 a9 a10 : Nat → Int32), ac_J (sz, ck, wt, st, pc, ch, fk, oc, a1, a2, a3, a4, a5, a6, a7, a8, a9, a10) → J (nI (i + 3)) sz ck wt st pc ch fk oc a1 a2 a3 a4 a5 a6 a7 a8 a9 a10) : wL_law_105 post L xs J (nI i) 1 kc ks sz ck wt st pc ch fk oc a1 a2 a3 a4 a5 a6 a7 a8 a9 a10 := by
  unfold wL_law_105
  refine ac_drop hJ (fun r u hu => ?_)
  obtain ⟨sz, ck, wt, st, pc, ch, fk, oc, a1, a2, a3, a4, a5, a6, a7, a8, a9, a10⟩ := u
  exact br_f ac_ne10 (nm_r (nI_add i 3) (H _ _ _ _ _ _ _ _ _ _ _ _ _ _ _ _ _ _ hu))
theorem ac_w56 {post : Int32 → Prop} {L : Nat} {xs : Nat → Int32} {J : Int32 → Int32 → Int32 → Int32 → Int32 → Int32 → Int32 → Int32 → Int32 → (Nat → Int32) → (Nat → Int32) → (Nat → Int32) → (Nat → Int32) → (Nat → Int32) → (Nat → Int32) → (Nat → Int32) → (Nat → Int32) → (Nat → Int32) → (Nat → Int32) → Prop} {x3 : Int32} {i kc ks : Nat} (hJ : ac_J (sz, ck, wt, st, pc, ch, fk, oc, a1, a2, a3, a4, a5, a6, a7, a8, a9, a10))
    (H : ∀ (sz ck wt st pc ch fk oc : Int32) (a1 a2 a3 a4 a5 a6 a7 a8 a9 a10 : Nat → Int32), ac_J (sz, ck, wt, st, pc, ch, fk, oc, a1, a2, a3, a4, a5, a6, a7, a8, a9, a10) → J (nI (i + 3)) sz ck wt st pc ch fk oc a1 a2 a3 a4 a5 a6 a7 a8 a9 a10) : wL_law_56 post L xs J (nI i) x3 kc ks sz ck wt st pc ch fk oc a1 a2 a3 a4 a5 a6 a7 a8 a9 a10 := by
  unfold wL_law_56
  refine ac_facts hJ (fun u hu => ?_)
  obtain ⟨sz, ck, wt, st, pc, ch, fk, oc, a1, a2, a3, a4, a5, a6, a7, a8, a9, a10⟩ := u
  refine br_f ac_ne10 (br_c (fun _ => nm_r (nI_add i 3) (H _ _ _ _ _ _ _ _ _ _ _ _ _ _ _ _ _ _ hu)) (fun _ => ac_stop hu (fun r u hu => ?_)))
  obtain ⟨sz, ck, wt, st, pc, ch, fk, oc, a1, a2, a3, a4, a5, a6, a7, a8, a9, a10⟩ := u
  refine ac_facts hu (fun u hu => ?_)
  obtain ⟨sz, ck, wt, st, pc, ch, fk, oc, a1, a2, a3, a4, a5, a6, a7, a8, a9, a10⟩ := u
  refine br_f ac_ne10 (ac_runs hu (fun u hu => ?_))
  obtain ⟨sz, ck, wt, st, pc, ch, fk, oc, a1, a2, a3, a4, a5, a6, a7, a8, a9, a10⟩ := u
  exact br_f ac_ne10 (ac_w105 hu H)
end
theorem ac_law {xs : Nat → Int32} {L kc ks : Nat} (hL : L ≤ 260) (u : St1) (hu : ac_J u) : ∃ m, wL_law_10 (fun r => r = 1) L xs kc ks m 0 u.1 u.2.1 u.2.2.1 u.2.2.2.1 u.2.2.2.2.1 u.2.2.2.2.2.1 u.2.2.2.2.2.2.1 u.2.2.2.2.2.2.2.1 u.2.2.2.2.2.2.2.2.1 u.2.2.2.2.2.2.2.2.2.1 u.2.2.2.2.2.2.2.2.2.2.1 u.2.2.2.2.2.2.2.2.2.2.2.1 u.2.2.2.2.2.2.2.2.2.2.2.2.1 u.2.2.2.2.2.2.2.2.2.2.2.2.2.1 u.2.2.2.2.2.2.2.2.2.2.2.2.2.2.1 u.2.2.2.2.2.2.2.2.2.2.2.2.2.2.2.1 u.2.2.2.2.2.2.2.2.2.2.2.2.2.2.2.2.1 u.2.2.2.2.2.2.2.2.2.2.2.2.2.2.2.2.2 := by
  refine loop_m (fun m (s : Int32 × St1) => wL_law_10 (fun r => r = 1) L xs kc ks m s.1 s.2.1 s.2.2.1 s.2.2.2.1 s.2.2.2.2.1 s.2.2.2.2.2.1 s.2.2.2.2.2.2.1 s.2.2.2.2.2.2.2.1 s.2.2.2.2.2.2.2.2.1 s.2.2.2.2.2.2.2.2.2.1 s.2.2.2.2.2.2.2.2.2.2.1 s.2.2.2.2.2.2.2.2.2.2.2.1 s.2.2.2.2.2.2.2.2.2.2.2.2.1 s.2.2.2.2.2.2.2.2.2.2.2.2.2.1 s.2.2.2.2.2.2.2.2.2.2.2.2.2.2.1 s.2.2.2.2.2.2.2.2.2.2.2.2.2.2.2.1 s.2.2.2.2.2.2.2.2.2.2.2.2.2.2.2.2.1 s.2.2.2.2.2.2.2.2.2.2.2.2.2.2.2.2.2.1 s.2.2.2.2.2.2.2.2.2.2.2.2.2.2.2.2.2.2) (fun s => ac_J s.2 ∧ ∃ i, s.1 = nI i ∧ i ≤ 300) (fun s => 300 - s.1.toNatClampNeg) ?_ (0, u) ⟨hu, 0, rfl, by omega⟩
  rintro m ⟨x, sz, ck, wt, st, pc, ch, fk, oc, a1, a2, a3, a4, a5, a6, a7, a8, a9, a10⟩ ⟨hJ, i, e, hi⟩ hw
  dsimp only at e hJ
  subst e
  refine pk_le L (i + 2) (fun _ => rfl) (fun z => ?_) rfl (nI_add i 2)
  have v1 : vp_in (nI i + 1) L := pk_in (i + 1) L (by omega) (nI_add i 1)
  have v2 : vp_in (nI i + 2) L := pk_in (i + 2) L (by omega) (nI_add i 2)
  have v0 : vp_in (nI i) L := pk_in i L (by omega)
  have HH : ∀ (sz ck wt st pc ch fk oc : Int32) (a1 a2 a3 a4 a5 a6 a7 a8 a9 a10 : Nat → Int32), ac_J (sz, ck, wt, st, pc, ch, fk, oc, a1, a2, a3, a4, a5, a6, a7, a8, a9, a10) → wL_law_10 (fun r => r = 1) L xs kc ks m (nI (i + 3)) sz ck wt st pc ch fk oc a1 a2 a3 a4 a5 a6 a7 a8 a9 a10 := by
    intro sz ck wt st pc ch fk oc a1 a2 a3 a4 a5 a6 a7 a8 a9 a10 hJ
    refine hw (nI (i + 3), (sz, ck, wt, st, pc, ch, fk, oc, a1, a2, a3, a4, a5, a6, a7, a8, a9, a10)) ⟨hJ, i + 3, rfl, by omega⟩ ?_
    show 300 - (nI (i + 3)).toNatClampNeg < 300 - (nI i).toNatClampNeg
    rw [nI_clamp (show i + 3 < 2 ^ 31 by omega), nI_clamp (show i < 2 ^ 31 by omega)]
    omega
  refine ⟨v1, nm_e ⟨v0, v2, ac_emit hJ (fun u hu => ?_)⟩⟩
  obtain ⟨sz, ck, wt, st, pc, ch, fk, oc, a1, a2, a3, a4, a5, a6, a7, a8, a9, a10⟩ := u
  refine ⟨v0, br_c (fun _ => ac_drop hu (fun r u hu => ?_)) (fun _ => ac_w56 hu HH)⟩
  obtain ⟨sz, ck, wt, st, pc, ch, fk, oc, a1, a2, a3, a4, a5, a6, a7, a8, a9, a10⟩ := u
  exact ac_w56 hu HH
theorem i_vc (xs : Nat → Int32) (L : Nat) (hL : L ≤ 260) : wpL_law (fun r => r = 1) L xs := by
  refine ⟨10, 125, by omega, by omega, ?_⟩
  unfold wpX_init
  refine ⟨by omega, by omega, by omega, by omega, by omega, by omega, by omega, by omega, by omega, by omega, by omega, by omega, by omega, by omega, by omega, by omega, by omega, by omega, by omega, by omega, ?_⟩
  exact ac_law hL (0, 0, 0, 0, 0, 0, 0, 0, (fun _ => 0), (fun _ => 0), (fun _ => 0), (fun _ => 0), (fun _ => 0), (fun _ => 0), (fun _ => 0), (fun _ => 0), (fun _ => 0), (fun _ => 0)) ⟨0, rfl, ⟨by omega, fun j hj => absurd hj (by omega)⟩, Or.inl rfl⟩
end
