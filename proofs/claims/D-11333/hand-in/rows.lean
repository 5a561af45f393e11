section
/-- an integer as a long, and as an int -/
def ap_L (z : Int) : Int64 := Int64.ofInt z
def ap_I (z : Int) : Int32 := Int32.ofInt z
def ap_b (z : Int) : Prop := -4000000000000000000 ≤ z ∧ z ≤ 4000000000000000000
def ap_s (z : Int) : Prop := -1000000 ≤ z ∧ z ≤ 1000000
theorem ap_Lt {z : Int} (h : ap_b z) : (ap_L z).toInt = z := by
  obtain ⟨h1, h2⟩ := h
  exact Int64.toInt_ofInt_of_le (by omega) (by omega)
theorem ap_It {z : Int} (h : -2147483648 ≤ z) (h' : z ≤ 2147483647) : (ap_I z).toInt = z :=
  Int32.toInt_ofInt_of_le (by omega) (by omega)
theorem ap_Ladd (a b : Int) : ap_L a + ap_L b = ap_L (a + b) := (Int64.ofInt_add a b).symm
theorem ap_Lsub (a b : Int) : ap_L a - ap_L b = ap_L (a - b) := (Int64.ofInt_sub a b).symm
theorem ap_Lmul (a b : Int) : ap_L a * ap_L b = ap_L (a * b) := (Int64.ofInt_mul a b).symm
theorem ap_Lneg (a : Int) : -ap_L a = ap_L (-a) := (Int64.ofInt_neg a).symm
theorem ap_Iadd (a b : Int) : ap_I a + ap_I b = ap_I (a + b) := (Int32.ofInt_add a b).symm
theorem ap_Isub (a b : Int) : ap_I a - ap_I b = ap_I (a - b) := (Int32.ofInt_sub a b).symm
theorem ap_Imul (a b : Int) : ap_I a * ap_I b = ap_I (a * b) := (Int32.ofInt_mul a b).symm
theorem ap_Ineg (a : Int) : -ap_I a = ap_I (-a) := (Int32.ofInt_neg a).symm
theorem ap_Lle {a b : Int} (ha : ap_b a) (hb : ap_b b) : ap_L a ≤ ap_L b ↔ a ≤ b := by
  rw [Int64.le_iff_toInt_le, ap_Lt ha, ap_Lt hb]
theorem ap_Llt {a b : Int} (ha : ap_b a) (hb : ap_b b) : ap_L a < ap_L b ↔ a < b := by
  rw [Int64.lt_iff_toInt_lt, ap_Lt ha, ap_Lt hb]
theorem ap_Leq {a b : Int} (ha : ap_b a) (hb : ap_b b) : ap_L a = ap_L b ↔ a = b := by
  rw [← Int64.toInt_inj, ap_Lt ha, ap_Lt hb]
theorem ap_b0 : ap_b 0 := ⟨by omega, by omega⟩
theorem ap_L0 : ap_L 0 = 0 := rfl
theorem ap_L1 : ap_L 1 = 1 := rfl
theorem ap_Lm1 : ap_L (-1) = -1 := rfl
theorem ap_Ldiv {a b : Int} (ha : ap_b a) (hb : ap_b b) : ap_L a / ap_L b = ap_L (a.tdiv b) := by
  obtain ⟨h1, h2⟩ := ha
  obtain ⟨h3, h4⟩ := hb
  exact (Int64.ofInt_tdiv (show (-9223372036854775808 : Int) ≤ a by omega) (show a ≤ (9223372036854775807 : Int) by omega) (show (-9223372036854775808 : Int) ≤ b by omega) (show b ≤ (9223372036854775807 : Int) by omega)).symm
theorem ap_Lex {u q x : Int} (hu : u ≠ 0) (hx : x = u * q) (h1 : ap_b u) (h2 : ap_b x) : ap_L x / ap_L u = ap_L q := by
  rw [ap_Ldiv h2 h1, hx, Int.mul_tdiv_cancel_left q hu]
theorem ap_sb {a : Int} (h : ap_s a) : ap_b a := by
  obtain ⟨h1, h2⟩ := h
  exact ⟨by omega, by omega⟩
theorem ap_sm {a b : Int} (ha : ap_s a) (hb : ap_s b) : -1000000000000 ≤ a * b ∧ a * b ≤ 1000000000000 := by
  obtain ⟨h1, h2⟩ := ha
  obtain ⟨h3, h4⟩ := hb
  have e : (a * b).natAbs ≤ 1000000 * 1000000 := by
    rw [Int.natAbs_mul]
    exact Nat.mul_le_mul (by omega) (by omega)
  omega
theorem ap_smb {a b : Int} (ha : ap_s a) (hb : ap_s b) : ap_b (a * b) := by
  have h := ap_sm ha hb
  exact ⟨by omega, by omega⟩
theorem ap_smm {a b c d : Int} (ha : ap_s a) (hb : ap_s b) (hc : ap_s c) (hd : ap_s d) : ap_b (a * b - c * d) := by
  have h := ap_sm ha hb
  have h' := ap_sm hc hd
  exact ⟨by omega, by omega⟩
theorem ap_nI (n : Nat) : nI n = ap_I (n : Int) := (Int32.ofInt_eq_ofNat (n := n)).symm
theorem ap_lN (n : Nat) : lN n = ap_L (n : Int) := (Int64.ofInt_eq_ofNat (n := n)).symm
theorem ap_I0 : ap_I 0 = 0 := rfl
theorem ap_I1 : ap_I 1 = 1 := rfl
theorem ap_Im1 : ap_I (-1) = -1 := rfl
theorem ap_Ile {a b : Int} (ha : -2147483648 ≤ a ∧ a ≤ 2147483647) (hb : -2147483648 ≤ b ∧ b ≤ 2147483647) : ap_I a ≤ ap_I b ↔ a ≤ b := by
  rw [Int32.le_iff_toInt_le, ap_It ha.1 ha.2, ap_It hb.1 hb.2]
theorem ap_Ilt {a b : Int} (ha : -2147483648 ≤ a ∧ a ≤ 2147483647) (hb : -2147483648 ≤ b ∧ b ≤ 2147483647) : ap_I a < ap_I b ↔ a < b := by
  rw [Int32.lt_iff_toInt_lt, ap_It ha.1 ha.2, ap_It hb.1 hb.2]
theorem ap_Ieq {a b : Int} (ha : -2147483648 ≤ a ∧ a ≤ 2147483647) (hb : -2147483648 ≤ b ∧ b ≤ 2147483647) : ap_I a = ap_I b ↔ a = b := by
  rw [← Int32.toInt_inj, ap_It ha.1 ha.2, ap_It hb.1 hb.2]
theorem ap_I64 {a : Int} (h : -2147483648 ≤ a) (h' : a ≤ 2147483647) : (ap_I a).toInt64 = ap_L a :=
  Int32.toInt64_ofInt (show (-2147483648 : Int) ≤ a by omega) (show a ≤ (2147483647 : Int) by omega)
theorem ap_L32 (a : Int) : (ap_L a).toInt32 = ap_I a := Int64.toInt32_ofInt
theorem ap_byte {a : Int} (h : -128 ≤ a) (h' : a ≤ 127) : (ap_I a).toInt8.toInt32 = ap_I a := by
  show (Int32.ofInt a).toInt8.toInt32 = Int32.ofInt a
  rw [Int32.toInt8_ofInt]
  exact Int8.toInt32_ofInt (show (-128 : Int) ≤ a by omega) (show a ≤ (127 : Int) by omega)
theorem ap_nar {a : Int} (h : -128 ≤ a) (h' : a ≤ 127) : vp_nar .byte (ap_I a) = ap_I a := by
  rw [vp_nar_byte, ap_byte h h']
theorem ap_narN {n : Nat} (h : n ≤ 127) : vp_nar .byte (nI n) = nI n := by
  rw [ap_nI, ap_nar (by omega) (by omega)]
theorem ap_ix (k r c : Nat) : nI r * nI k + nI c = nI (r * k + c) := by
  rw [pk_mul, nI_add]
end
section
section
variable {f0_present : Int32}
variable {f0_without : Int32}
variable {f0_rows : Int32}
variable {f0_turned : Int32}
variable {f0_unit : Int64}
variable {f0_columns : Int32}
variable {f0_firstWorth : Int32}
variable {f0_worthCount : Int32}
variable {f0_worthTop : Int64}
variable {f0_worthBottom : Int64}
variable {f0_lines : Int32}
variable {f0_empty : Int32}
variable {f0_hasHigh : Int32}
variable {f0_highTop : Int64}
variable {f0_highBottom : Int64}
variable {f0_hasLow : Int32}
variable {f0_lowTop : Int64}
variable {f0_lowBottom : Int64}
variable {f0_branches : Int32}
variable {f0_leastThird : Int32}
variable {f0_greatestThird : Int32}
variable {a1 : Nat → Int32}
variable {a2 : Nat → Int32}
variable {a3 : Nat → Int32}
variable {a4 : Nat → Int32}
variable {a5 : Nat → Int32}
variable {a6 : Nat → Int32}
variable {a7 : Nat → Int32}
variable {a8 : Nat → Int32}
variable {a9 : Nat → Int32}
variable {a10 : Nat → Int64}
variable {a11 : Nat → Int32}
variable {a12 : Nat → Int32}
variable {a13 : Nat → Int64}
variable {a14 : Nat → Int64}
variable {a15 : Nat → Int64}
variable {a16 : Nat → Int64}
variable {a17 : Nat → Int64}
variable {a18 : Nat → Int32}
variable {a19 : Nat → Int32}
abbrev ap_JA : Type := (Nat → Int32) → (Nat → Int32) → (Nat → Int32) → (Nat → Int32) → (Nat → Int32) → (Nat → Int32) → (Nat → Int32) → (Nat → Int32) → (Nat → Int32) → (Nat → Int64) → (Nat → Int32) → (Nat → Int32) → (Nat → Int64) → (Nat → Int64) → (Nat → Int64) → (Nat → Int64) → (Nat → Int64) → (Nat → Int32) → (Nat → Int32) → Prop
abbrev ap_JS : Type := Int32 → Int32 → Int32 → Int32 → Int64 → Int32 → Int32 → Int32 → Int64 → Int64 → Int32 → Int32 → Int32 → Int64 → Int64 → Int32 → Int64 → Int64 → Int32 → Int32 → Int32 → ap_JA
theorem ap_cell {post : Int64 → Prop} {x y : Int32} (r c : Nat) (h : r * 5 + c < 105) (H : post (a10 (r * 5 + c))) (hx : x = nI r := by rfl) (hy : y = nI c := by rfl) : wpX_cell post (f0_present, f0_without, f0_rows, f0_turned, f0_unit, f0_columns, f0_firstWorth, f0_worthCount, f0_worthTop, f0_worthBottom, f0_lines, f0_empty, f0_hasHigh, f0_highTop, f0_highBottom, f0_hasLow, f0_lowTop, f0_lowBottom, f0_branches, f0_leastThird, f0_greatestThird, a1, a2, a3, a4, a5, a6, a7, a8, a9, a10, a11, a12, a13, a14, a15, a16, a17, a18, a19) x y := by
  subst hx hy
  have e : nI r * 5 + nI c = nI (r * 5 + c) := ap_ix 5 r c
  refine ⟨pk_in (r * 5 + c) 105 h e, ?_⟩
  rw [pk_cl (r * 5 + c) e]
  exact H
/-- what an exchange leaves at a place of the table, ahead of a turn of signs -/
def ap_ex (t : Nat → Int64) (u : Int64) (row col ncol r c : Nat) : Int64 :=
  if r = row then (if c = col then u else t (r * 5 + c))
  else if c = col then -(t (r * 5 + c))
  else if c < ncol ∨ c = 4 then (if u = 0 then 0 else (t (r * 5 + c) * t (row * 5 + col) - t (r * 5 + col) * t (row * 5 + c)) / u)
  else t (r * 5 + c)
theorem ap_ex40 {post : St2 → Prop} {J21 : Int32 → ap_JA} {row col ncol r : Nat} {P x7 : Int64} {x5 : Int32} (hr : r < 21) (hrow : row < 16) (hne : r ≠ row) (hc : col < 4) (hn : ncol ≤ 4) (eC : f0_columns = nI ncol)
    (H : ∀ t' : Nat → Int64, (∀ r' c', c' < 5 → t' (r' * 5 + c') = if r' = r ∧ c' ≠ col ∧ (c' < ncol ∨ c' = 4) then (if f0_unit = 0 then 0 else (a10 (r * 5 + c') * P - x7 * a10 (row * 5 + c')) / f0_unit) else a10 (r' * 5 + c')) → wX_exchange_146 post J21 (nI row) (nI col) P x5 (nI r) x7 f0_present f0_without f0_rows f0_turned f0_unit f0_columns f0_firstWorth f0_worthCount f0_worthTop f0_worthBottom f0_lines f0_empty f0_hasHigh f0_highTop f0_highBottom f0_hasLow f0_lowTop f0_lowBottom f0_branches f0_leastThird f0_greatestThird a1 a2 a3 a4 a5 a6 a7 a8 a9 t' a11 a12 a13 a14 a15 a16 a17 a18 a19) :
    ∃ n, wX_exchange_40 post J21 (nI row) (nI col) P x5 (nI r) x7 f0_present f0_without f0_rows f0_turned f0_unit f0_columns f0_firstWorth f0_worthCount f0_worthTop f0_worthBottom f0_lines f0_empty f0_hasHigh f0_highTop f0_highBottom f0_hasLow f0_lowTop f0_lowBottom f0_branches f0_leastThird f0_greatestThird n 0 a1 a2 a3 a4 a5 a6 a7 a8 a9 a10 a11 a12 a13 a14 a15 a16 a17 a18 a19 := by
  subst eC
  refine pk_loop (fun n i t => wX_exchange_40 post J21 (nI row) (nI col) P x5 (nI r) x7 f0_present f0_without f0_rows f0_turned f0_unit (nI ncol) f0_firstWorth f0_worthCount f0_worthTop f0_worthBottom f0_lines f0_empty f0_hasHigh f0_highTop f0_highBottom f0_hasLow f0_lowTop f0_lowBottom f0_branches f0_leastThird f0_greatestThird n (nI i) a1 a2 a3 a4 a5 a6 a7 a8 a9 t a11 a12 a13 a14 a15 a16 a17 a18 a19) (fun i t => ∀ r' c', c' < 5 → t (r' * 5 + c') = if r' = r ∧ c' < i ∧ c' ≠ col ∧ (c' < ncol ∨ c' = 4) then (if f0_unit = 0 then 0 else (a10 (r * 5 + c') * P - x7 * a10 (row * 5 + c')) / f0_unit) else a10 (r' * 5 + c')) 5 0 a10 (by omega) ?_ ?_ ?_
  · intro r' c' h
    rw [if_neg (by omega)]
  · intro n t h
    refine pk_le 5 5 (fun _ => H t ?_) (fun z => absurd z (by omega))
    intro r' c' hc'
    rw [h r' c' hc']
    simp only [hc', true_and]
  · intro n i t hi h hw
    have key : i ≠ col → (i < ncol ∨ i = 4) → wX_exchange_78 post J21 (wX_exchange_40 post J21 (nI row) (nI col) P x5 (nI r) x7 f0_present f0_without f0_rows f0_turned f0_unit (nI ncol) f0_firstWorth f0_worthCount f0_worthTop f0_worthBottom f0_lines f0_empty f0_hasHigh f0_highTop f0_highBottom f0_hasLow f0_lowTop f0_lowBottom f0_branches f0_leastThird f0_greatestThird n) (nI row) (nI col) P x5 (nI r) x7 (nI i) 1 f0_present f0_without f0_rows f0_turned f0_unit (nI ncol) f0_firstWorth f0_worthCount f0_worthTop f0_worthBottom f0_lines f0_empty f0_hasHigh f0_highTop f0_highBottom f0_hasLow f0_lowTop f0_lowBottom f0_branches f0_leastThird f0_greatestThird a1 a2 a3 a4 a5 a6 a7 a8 a9 t a11 a12 a13 a14 a15 a16 a17 a18 a19 := by
      intro g1 g2
      have ew : ∀ v : Int64, v = (if f0_unit = 0 then 0 else (t (r * 5 + i) * P - x7 * t (row * 5 + i)) / f0_unit) → ∀ r' c', c' < 5 → vp_updL t (r * 5 + i) v (r' * 5 + c') = if r' = r ∧ c' < i + 1 ∧ c' ≠ col ∧ (c' < ncol ∨ c' = 4) then (if f0_unit = 0 then 0 else (a10 (r * 5 + c') * P - x7 * a10 (row * 5 + c')) / f0_unit) else a10 (r' * 5 + c') := by
        intro v ev r' c' hc'
        have e1 : t (r * 5 + i) = a10 (r * 5 + i) := by rw [h r i hi, if_neg (by omega)]
        have e2 : t (row * 5 + i) = a10 (row * 5 + i) := by rw [h row i hi, if_neg (by omega)]
        by_cases z : r' * 5 + c' = r * 5 + i
        · have z1 : r' = r := by omega
          have z2 : c' = i := by omega
          subst z1 z2
          rw [pk_uLs, if_pos ⟨rfl, by omega, g1, g2⟩, ev, e1, e2]
        · rw [pk_uLn z, h r' c' hc']
          by_cases y : r' = r ∧ c' < i ∧ c' ≠ col ∧ (c' < ncol ∨ c' = 4)
          · rw [if_pos y, if_pos (c := r' = r ∧ c' < i + 1 ∧ c' ≠ col ∧ (c' < ncol ∨ c' = 4)) ⟨y.1, by omega, y.2.2⟩]
          · rw [if_neg y, if_neg (fun q => y ⟨q.1, by omega, q.2.2⟩)]
      have ei : nI r * 5 + nI i = nI (r * 5 + i) := ap_ix 5 r i
      refine br_f (by decide) (ap_cell r i (by omega) (ap_cell row i (by omega) (nm_e ?_)))
      refine br_c (fun hu => ⟨pk_in (r * 5 + i) 105 (by omega) ei, ?_⟩) (fun hu => ⟨hu, pk_in (r * 5 + i) 105 (by omega) ei, ?_⟩)
      · rw [pk_cl (r * 5 + i) ei]
        exact nm_e (nm_r (nI_1 i) (hw _ (ew 0 (by rw [if_pos hu]))))
      · rw [pk_cl (r * 5 + i) ei]
        exact nm_e (nm_r (nI_1 i) (hw _ (ew _ (by rw [if_neg hu]))))
    have skip : (i = col ∨ ¬ (i < ncol ∨ i = 4)) → ∀ r' c', c' < 5 → t (r' * 5 + c') = if r' = r ∧ c' < i + 1 ∧ c' ≠ col ∧ (c' < ncol ∨ c' = 4) then (if f0_unit = 0 then 0 else (a10 (r * 5 + c') * P - x7 * a10 (row * 5 + c')) / f0_unit) else a10 (r' * 5 + c') := by
      intro g r' c' hc'
      rw [h r' c' hc']
      by_cases y : r' = r ∧ c' < i ∧ c' ≠ col ∧ (c' < ncol ∨ c' = 4)
      · rw [if_pos y, if_pos (c := r' = r ∧ c' < i + 1 ∧ c' ≠ col ∧ (c' < ncol ∨ c' = 4)) ⟨y.1, by omega, y.2.2⟩]
      · rw [if_neg y, if_neg (fun q => y ⟨q.1, by omega, q.2.2⟩)]
    refine pk_le 5 i (fun z => absurd z (by omega)) (fun _ => ?_)
    refine pk_eq r row (fun z => absurd z hne) (fun _ => ?_)
    refine pk_eq i col (fun e => ?_) (fun e => ?_)
    · exact br_t rfl (nm_r (nI_1 i) (hw t (skip (Or.inl e))))
    · refine pk_lt i ncol (fun g => key e (Or.inl g)) (fun g => ?_)
      refine pk_eq i 4 (fun g2 => key e (Or.inr g2)) (fun g2 => ?_)
      exact br_t rfl (nm_r (nI_1 i) (hw t (skip (Or.inr (by omega)))))
theorem ap_turn {post : St2 → Prop} {last : Nat} (hl : last ≤ 21)
    (H : ∀ t' : Nat → Int64, (∀ i, i < last * 5 → t' i = -(a10 i)) → post (f0_present, f0_without, f0_rows, f0_turned, (-f0_unit), f0_columns, f0_firstWorth, f0_worthCount, f0_worthTop, f0_worthBottom, f0_lines, f0_empty, f0_hasHigh, f0_highTop, f0_highBottom, f0_hasLow, f0_lowTop, f0_lowBottom, f0_branches, f0_leastThird, f0_greatestThird, a1, a2, a3, a4, a5, a6, a7, a8, a9, t', a11, a12, a13, a14, a15, a16, a17, a18, a19)) : wpX_turnSigns post (f0_present, f0_without, f0_rows, f0_turned, f0_unit, f0_columns, f0_firstWorth, f0_worthCount, f0_worthTop, f0_worthBottom, f0_lines, f0_empty, f0_hasHigh, f0_highTop, f0_highBottom, f0_hasLow, f0_lowTop, f0_lowBottom, f0_branches, f0_leastThird, f0_greatestThird, a1, a2, a3, a4, a5, a6, a7, a8, a9, a10, a11, a12, a13, a14, a15, a16, a17, a18, a19) (nI last) := by
  refine nm_e ?_
  have e5 : nI last * 5 = nI (last * 5) := pk_mul last 5
  refine pk_loop (fun n i t => wX_turnSigns_11 post (nI last) f0_present f0_without f0_rows f0_turned (-f0_unit) f0_columns f0_firstWorth f0_worthCount f0_worthTop f0_worthBottom f0_lines f0_empty f0_hasHigh f0_highTop f0_highBottom f0_hasLow f0_lowTop f0_lowBottom f0_branches f0_leastThird f0_greatestThird n (nI i) a1 a2 a3 a4 a5 a6 a7 a8 a9 t a11 a12 a13 a14 a15 a16 a17 a18 a19) (fun i t => (∀ k, k < i → t k = -(a10 k)) ∧ (∀ k, i ≤ k → t k = a10 k)) (last * 5) 0 a10 (by omega) ?_ ?_ ?_
  · exact ⟨fun k hk => absurd hk (by omega), fun k _ => rfl⟩
  · intro n t h
    exact pk_le (last * 5) (last * 5) (fun _ => H t h.1) (fun z => absurd z (by omega)) e5
  · intro n i t hi h hw
    refine pk_le (last * 5) i (fun z => absurd z (by omega)) (fun _ => ?_) e5
    refine ⟨pk_in i 105 (by omega), pk_in i 105 (by omega), ?_⟩
    rw [pk_cl (x := nI i) i]
    refine nm_e (nm_r (nI_1 i) (hw _ ⟨fun k hk => ?_, fun k hk => ?_⟩))
    · by_cases z : k = i
      · rw [z, pk_uLs, h.2 i (by omega)]
      · rw [pk_uLn z, h.1 k (by omega)]
    · rw [pk_uLn (by omega), h.2 k (by omega)]
theorem ap_exchange {post : St2 → Prop} {row col ncol last : Nat} (hr : row < last) (hl : last ≤ 21) (hrow : row < 16) (hc : col < 4) (hn : ncol ≤ 4)
    (eC : f0_columns = nI ncol) (eF : f0_firstWorth + f0_worthCount = nI last)
    (H : ∀ (u' : Int64) (t' : Nat → Int64),
      (0 ≤ a10 (row * 5 + col) → u' = a10 (row * 5 + col) ∧ ∀ r c, r < last → c < 5 → t' (r * 5 + c) = ap_ex a10 f0_unit row col ncol r c) →
      (¬ 0 ≤ a10 (row * 5 + col) → u' = -(a10 (row * 5 + col)) ∧ ∀ r c, r < last → c < 5 → t' (r * 5 + c) = -(ap_ex a10 f0_unit row col ncol r c)) →
      post (f0_present, f0_without, f0_rows, f0_turned, u', f0_columns, f0_firstWorth, f0_worthCount, f0_worthTop, f0_worthBottom, f0_lines, f0_empty, f0_hasHigh, f0_highTop, f0_highBottom, f0_hasLow, f0_lowTop, f0_lowBottom, f0_branches, f0_leastThird, f0_greatestThird, a1, a2, a3, a4, a5, a6, a7, a8, a9, t', (upd a11 row (vp_nar .byte (a12 col))), (upd a12 col (vp_nar .byte (a11 row))), a13, a14, a15, a16, a17, a18, a19)) :
    wpX_exchange post (f0_present, f0_without, f0_rows, f0_turned, f0_unit, f0_columns, f0_firstWorth, f0_worthCount, f0_worthTop, f0_worthBottom, f0_lines, f0_empty, f0_hasHigh, f0_highTop, f0_highBottom, f0_hasLow, f0_lowTop, f0_lowBottom, f0_branches, f0_leastThird, f0_greatestThird, a1, a2, a3, a4, a5, a6, a7, a8, a9, a10, a11, a12, a13, a14, a15, a16, a17, a18, a19) (nI row) (nI col) := by
  unfold wpX_exchange
  refine ap_cell row col (by omega) ?_
  refine nm_r eF ?_
  refine pk_loop (fun n i t => wX_exchange_21 post (nI row) (nI col) (a10 (row * 5 + col)) (nI last) f0_present f0_without f0_rows f0_turned f0_unit f0_columns f0_firstWorth f0_worthCount f0_worthTop f0_worthBottom f0_lines f0_empty f0_hasHigh f0_highTop f0_highBottom f0_hasLow f0_lowTop f0_lowBottom f0_branches f0_leastThird f0_greatestThird n (nI i) a1 a2 a3 a4 a5 a6 a7 a8 a9 t a11 a12 a13 a14 a15 a16 a17 a18 a19) (fun i t => ∀ r c, r < last → c < 5 → t (r * 5 + c) = if r < i ∧ r ≠ row then ap_ex a10 f0_unit row col ncol r c else a10 (r * 5 + c)) last 0 a10 (by omega) ?_ ?_ ?_
  · intro r c _ _
    rw [if_neg (by omega)]
  · intro n t h
    have ei : nI row * 5 + nI col = nI (row * 5 + col) := ap_ix 5 row col
    have fin : ∀ r c, r < last → c < 5 → vp_updL t (row * 5 + col) f0_unit (r * 5 + c) = ap_ex a10 f0_unit row col ncol r c := by
      intro r c h1 h2
      by_cases z : r * 5 + c = row * 5 + col
      · have z1 : r = row := by omega
        have z2 : c = col := by omega
        subst z1 z2
        rw [pk_uLs]
        unfold ap_ex
        rw [if_pos rfl, if_pos rfl]
      · rw [pk_uLn z, h r c h1 h2]
        by_cases y : r = row
        · rw [if_neg (by omega)]
          unfold ap_ex
          rw [if_pos y, if_neg (by omega)]
        · rw [if_pos ⟨h1, y⟩]
    refine pk_le last last (fun _ => ?_) (fun z => absurd z (by omega))
    refine ⟨pk_in (row * 5 + col) 105 (by omega) ei, ?_⟩
    rw [pk_cl (row * 5 + col) ei]
    refine nm_e ⟨pk_in row 16 hrow, ?_⟩
    rw [pk_cl (x := nI row) row, pk_cl (x := nI col) col]
    refine nm_e ⟨pk_in col 4 hc, pk_in row 16 hrow, nm_e ⟨pk_in col 4 hc, nm_e ?_⟩⟩
    refine br_c (fun hp => ?_) (fun hp => ?_)
    · exact H _ _ (fun _ => ⟨rfl, fin⟩) (fun g => absurd hp g)
    · refine ap_turn hl (fun t' ht => ?_)
      refine H _ _ (fun g => absurd g hp) (fun _ => ⟨rfl, fun r c h1 h2 => ?_⟩)
      rw [ht (r * 5 + c) (by omega), fin r c h1 h2]
  · intro n i t hi h hw
    refine pk_le last i (fun z => absurd z (by omega)) (fun _ => ?_)
    refine ap_cell i col (by omega) ?_
    by_cases hne : i = row
    · subst hne
      refine ⟨1, ?_⟩
      refine pk_le 5 0 (fun z => absurd z (by omega)) (fun _ => ?_)
      refine br_t rfl (br_t rfl (nm_r (nI_1 i) (hw t ?_)))
      intro r c h1 h2
      rw [h r c h1 h2]
      by_cases y : r < i ∧ r ≠ i
      · rw [if_pos y, if_pos ⟨by omega, y.2⟩]
      · rw [if_neg y, if_neg (by omega)]
    · refine ap_ex40 (by omega) hrow hne hc hn eC (fun t' ht => ?_)
      have ei : nI i * 5 + nI col = nI (i * 5 + col) := ap_ix 5 i col
      refine pk_eq i row (fun z => absurd z hne) (fun _ => ⟨pk_in (i * 5 + col) 105 (by omega) ei, ?_⟩)
      rw [pk_cl (i * 5 + col) ei]
      refine nm_e (nm_r (nI_1 i) (hw _ ?_))
      have ti : ∀ c, c < 5 → t (i * 5 + c) = a10 (i * 5 + c) := fun c h2 => by rw [h i c hi h2, if_neg (by omega)]
      have tr : ∀ c, c < 5 → t (row * 5 + c) = a10 (row * 5 + c) := fun c h2 => by rw [h row c hr h2, if_neg (by omega)]
      intro r c h1 h2
      by_cases z : r * 5 + c = i * 5 + col
      · have z1 : r = i := by omega
        have z2 : c = col := by omega
        subst z1 z2
        rw [pk_uLs, if_pos ⟨by omega, hne⟩, ti c h2]
        unfold ap_ex
        rw [if_neg hne, if_pos rfl]
      · rw [pk_uLn z, ht r c h2]
        by_cases y : r = i
        · subst y
          have zc : c ≠ col := by omega
          rw [if_pos (c := r < r + 1 ∧ r ≠ row) ⟨by omega, hne⟩, ti c h2, tr c h2, ti col (by omega)]
          unfold ap_ex
          rw [if_neg hne, if_neg zc]
          by_cases w : c < ncol ∨ c = 4
          · rw [if_pos (c := r = r ∧ c ≠ col ∧ (c < ncol ∨ c = 4)) ⟨rfl, zc, w⟩, if_pos w]
          · rw [if_neg (c := r = r ∧ c ≠ col ∧ (c < ncol ∨ c = 4)) (fun q => w q.2.2), if_neg w]
        · rw [if_neg (c := r = i ∧ c ≠ col ∧ (c < ncol ∨ c = 4)) (fun q => y q.1), h r c h1 h2]
          by_cases w : r < i ∧ r ≠ row
          · rw [if_pos w, if_pos ⟨by omega, w.2⟩]
          · rw [if_neg w, if_neg (by omega)]
end
end
section
section
variable {f0_present : Int32}
variable {f0_without : Int32}
variable {f0_rows : Int32}
variable {f0_turned : Int32}
variable {f0_unit : Int64}
variable {f0_columns : Int32}
variable {f0_firstWorth : Int32}
variable {f0_worthCount : Int32}
variable {f0_worthTop : Int64}
variable {f0_worthBottom : Int64}
variable {f0_lines : Int32}
variable {f0_empty : Int32}
variable {f0_hasHigh : Int32}
variable {f0_highTop : Int64}
variable {f0_highBottom : Int64}
variable {f0_hasLow : Int32}
variable {f0_lowTop : Int64}
variable {f0_lowBottom : Int64}
variable {f0_branches : Int32}
variable {f0_leastThird : Int32}
variable {f0_greatestThird : Int32}
variable {a1 : Nat → Int32}
variable {a2 : Nat → Int32}
variable {a3 : Nat → Int32}
variable {a4 : Nat → Int32}
variable {a5 : Nat → Int32}
variable {a6 : Nat → Int32}
variable {a7 : Nat → Int32}
variable {a8 : Nat → Int32}
variable {a9 : Nat → Int32}
variable {a10 : Nat → Int64}
variable {a11 : Nat → Int32}
variable {a12 : Nat → Int32}
variable {a13 : Nat → Int64}
variable {a14 : Nat → Int64}
variable {a15 : Nat → Int64}
variable {a16 : Nat → Int64}
variable {a17 : Nat → Int64}
variable {a18 : Nat → Int32}
variable {a19 : Nat → Int32}
def ap_at (M : List (List Int)) (r c : Nat) : Int := (M.getD r []).getD c 0
/-- the table holds n rows of M -/
def ap_T (t : Nat → Int64) (n : Nat) (M : List (List Int)) : Prop := ∀ r c, r < n → c < 5 → t (r * 5 + c) = ap_L (ap_at M r c) ∧ ap_s (ap_at M r c)
/-- the names -/
def ap_N (a : Nat → Int32) (l : List Nat) : Prop := ∀ i, i < l.length → a i = nI (l.getD i 0) ∧ l.getD i 0 ≤ 99
def ap_hT (M : List (List Int)) (fw wc c : Nat) : Prop := ∃ w, w < wc ∧ (∀ v, v < w → ap_at M (fw + v) c = 0) ∧ ap_at M (fw + w) c < 0
theorem ap_Leq0 {a : Int} (h : ap_b a) : ap_L a = 0 ↔ a = 0 := ap_Leq h ap_b0
theorem ap_Lge0 {a : Int} (h : ap_b a) : 0 ≤ ap_L a ↔ 0 ≤ a := ap_Lle ap_b0 h
theorem ap_Lle0 {a : Int} (h : ap_b a) : ap_L a ≤ 0 ↔ a ≤ 0 := ap_Lle h ap_b0
theorem ap_Llt0 {a : Int} (h : ap_b a) : ap_L a < 0 ↔ a < 0 := ap_Llt h ap_b0
theorem ap_hFp {M : List (List Int)} {fw wc c : Nat} (w : Nat) (hz : ∀ v, v < w → ap_at M (fw + v) c = 0) (hp : 0 < ap_at M (fw + w) c) : ¬ ap_hT M fw wc c := by
  rintro ⟨v, _, h1, h2⟩
  rcases Nat.lt_trichotomy v w with q | q | q
  · have := hz v q
    omega
  · subst q
    omega
  · have := h1 w q
    omega
theorem ap_helps {post : Int32 → Prop} {M : List (List Int)} {last fw wc c : Nat} (hT : ap_T a10 last M) (hl : fw + wc ≤ last) (h21 : last ≤ 21) (hc : c < 5) (eF : f0_firstWorth = nI fw) (eW : f0_worthCount = nI wc)
    (HT : ap_hT M fw wc c → post 1) (HF : ¬ ap_hT M fw wc c → post 0) : wpX_helps post (f0_present, f0_without, f0_rows, f0_turned, f0_unit, f0_columns, f0_firstWorth, f0_worthCount, f0_worthTop, f0_worthBottom, f0_lines, f0_empty, f0_hasHigh, f0_highTop, f0_highBottom, f0_hasLow, f0_lowTop, f0_lowBottom, f0_branches, f0_leastThird, f0_greatestThird, a1, a2, a3, a4, a5, a6, a7, a8, a9, a10, a11, a12, a13, a14, a15, a16, a17, a18, a19) (nI c) := by
  subst eF eW
  refine pk_loop (σ := Unit) (fun n i _ => wX_helps_2 post (nI c) f0_present f0_without f0_rows f0_turned f0_unit f0_columns (nI fw) (nI wc) f0_worthTop f0_worthBottom f0_lines f0_empty f0_hasHigh f0_highTop f0_highBottom f0_hasLow f0_lowTop f0_lowBottom f0_branches f0_leastThird f0_greatestThird a1 a2 a3 a4 a5 a6 a7 a8 a9 a10 a11 a12 a13 a14 a15 a16 a17 a18 a19 n (nI i)) (fun i _ => ∀ w, w < i → ap_at M (fw + w) c = 0) wc 0 () (by omega) (fun w hw => absurd hw (by omega)) ?_ ?_
  · intro n _ h
    refine pk_le wc wc (fun _ => HF ?_) (fun z => absurd z (by omega))
    rintro ⟨w, hw, _, hn⟩
    have := h w hw
    omega
  · intro n i _ hi h hw
    refine pk_le wc i (fun z => absurd z (by omega)) (fun _ => ?_)
    obtain ⟨ec, es⟩ := hT (fw + i) c (by omega) hc
    refine ap_cell (fw + i) c (by omega) ?_ (nI_add fw i)
    rw [ec]
    have eb := ap_sb es
    refine ek_if (ap_Leq0 eb) (fun z => nm_r (nI_1 i) (hw () (lt_s h z))) (fun z => ?_)
    refine ek_if (ap_Lge0 eb) (fun y => HF (ap_hFp i h (by omega))) (fun y => HT ⟨i, hi, h, by omega⟩)
theorem ap_enter0 {post : Int32 → Prop} {M : List (List Int)} {last fw wc ncol : Nat} (hT : ap_T a10 last M) (hl : fw + wc ≤ last) (h21 : last ≤ 21) (hn : ncol ≤ 4) (eF : f0_firstWorth = nI fw) (eW : f0_worthCount = nI wc) (eC : f0_columns = nI ncol)
    (hf : ∀ c, c < ncol → ¬ ap_hT M fw wc c) (H : post (-1)) : wpX_entering post (f0_present, f0_without, f0_rows, f0_turned, f0_unit, f0_columns, f0_firstWorth, f0_worthCount, f0_worthTop, f0_worthBottom, f0_lines, f0_empty, f0_hasHigh, f0_highTop, f0_highBottom, f0_hasLow, f0_lowTop, f0_lowBottom, f0_branches, f0_leastThird, f0_greatestThird, a1, a2, a3, a4, a5, a6, a7, a8, a9, a10, a11, a12, a13, a14, a15, a16, a17, a18, a19) := by
  subst eC
  refine pk_loop (σ := Unit) (fun n i _ => wX_entering_4 post f0_present f0_without f0_rows f0_turned f0_unit (nI ncol) f0_firstWorth f0_worthCount f0_worthTop f0_worthBottom f0_lines f0_empty f0_hasHigh f0_highTop f0_highBottom f0_hasLow f0_lowTop f0_lowBottom f0_branches f0_leastThird f0_greatestThird a1 a2 a3 a4 a5 a6 a7 a8 a9 a10 a11 a12 a13 a14 a15 a16 a17 a18 a19 n (-1) (nI i)) (fun _ _ => True) ncol 0 () (by omega) trivial ?_ ?_
  · intro n _ _
    exact pk_le ncol ncol (fun _ => H) (fun z => absurd z (by omega))
  · intro n i _ hi _ hw
    refine pk_le ncol i (fun z => absurd z (by omega)) (fun _ => ?_)
    refine ap_helps hT hl h21 (by omega) eF eW (fun g => absurd g (hf i hi)) (fun _ => ?_)
    exact br_t rfl (nm_r (nI_1 i) (hw () trivial))
theorem ap_enter1 {post : Int32 → Prop} {M : List (List Int)} {last fw wc ncol : Nat} (c0 : Nat) (hT : ap_T a10 last M) (hl : fw + wc ≤ last) (h21 : last ≤ 21) (hn : ncol ≤ 4) (eF : f0_firstWorth = nI fw) (eW : f0_worthCount = nI wc) (eC : f0_columns = nI ncol)
    (h0 : c0 < ncol) (ht : ap_hT M fw wc c0) (hf : ∀ c, c < ncol → c ≠ c0 → ¬ ap_hT M fw wc c) (H : post (nI c0)) : wpX_entering post (f0_present, f0_without, f0_rows, f0_turned, f0_unit, f0_columns, f0_firstWorth, f0_worthCount, f0_worthTop, f0_worthBottom, f0_lines, f0_empty, f0_hasHigh, f0_highTop, f0_highBottom, f0_hasLow, f0_lowTop, f0_lowBottom, f0_branches, f0_leastThird, f0_greatestThird, a1, a2, a3, a4, a5, a6, a7, a8, a9, a10, a11, a12, a13, a14, a15, a16, a17, a18, a19) := by
  subst eC
  refine pk_loop (σ := Int32) (fun n i s => wX_entering_4 post f0_present f0_without f0_rows f0_turned f0_unit (nI ncol) f0_firstWorth f0_worthCount f0_worthTop f0_worthBottom f0_lines f0_empty f0_hasHigh f0_highTop f0_highBottom f0_hasLow f0_lowTop f0_lowBottom f0_branches f0_leastThird f0_greatestThird a1 a2 a3 a4 a5 a6 a7 a8 a9 a10 a11 a12 a13 a14 a15 a16 a17 a18 a19 n s (nI i)) (fun i s => (i ≤ c0 → s = -1) ∧ (c0 < i → s = nI c0)) ncol 0 (-1) (by omega) ⟨fun _ => rfl, fun z => absurd z (by omega)⟩ ?_ ?_
  · intro n s h
    refine pk_le ncol ncol (fun _ => ?_) (fun z => absurd z (by omega))
    rw [h.2 h0]
    exact H
  · intro n i s hi h hw
    refine pk_le ncol i (fun z => absurd z (by omega)) (fun _ => ?_)
    refine ap_helps hT hl h21 (by omega) eF eW (fun g => ?_) (fun g => ?_)
    · have e : i = c0 := by
        rcases Nat.decEq i c0 with q | q
        · exact absurd g (hf i hi q)
        · exact q
      refine br_f (by decide) (br_t (by rw [h.1 (by omega)]; decide) (nm_r (nI_1 i) (hw _ ⟨fun z => absurd z (by omega), fun _ => by rw [e]⟩)))
    · have e : i ≠ c0 := fun q => g (by rw [q]; exact ht)
      exact br_t rfl (nm_r (nI_1 i) (hw s ⟨fun z => h.1 (by omega), fun z => h.2 (by omega)⟩))
theorem ap_leave {post : Int32 → Prop} {M : List (List Int)} {last rows c : Nat} {names : List Nat} (r0 : Nat) (hT : ap_T a10 last M) (hrl : rows ≤ last) (h21 : last ≤ 21) (h16 : rows ≤ 16) (hc : c < 5) (eR : f0_rows = nI rows) (hN : ap_N a11 names) (hNl : rows ≤ names.length)
    (h0 : r0 < rows) (hp : 0 < ap_at M r0 c)
    (hd : ∀ r, r < rows → r ≠ r0 → 0 < ap_at M r c → ap_at M r0 4 * ap_at M r c < ap_at M r 4 * ap_at M r0 c ∨ (ap_at M r0 4 * ap_at M r c = ap_at M r 4 * ap_at M r0 c ∧ names.getD r0 0 < names.getD r 0))
    (H : post (nI r0)) : wpX_leaving post (f0_present, f0_without, f0_rows, f0_turned, f0_unit, f0_columns, f0_firstWorth, f0_worthCount, f0_worthTop, f0_worthBottom, f0_lines, f0_empty, f0_hasHigh, f0_highTop, f0_highBottom, f0_hasLow, f0_lowTop, f0_lowBottom, f0_branches, f0_leastThird, f0_greatestThird, a1, a2, a3, a4, a5, a6, a7, a8, a9, a10, a11, a12, a13, a14, a15, a16, a17, a18, a19) (nI c) := by
  subst eR
  refine pk_loop (σ := Int32) (fun n i s => wX_leaving_4 post (nI c) f0_present f0_without (nI rows) f0_turned f0_unit f0_columns f0_firstWorth f0_worthCount f0_worthTop f0_worthBottom f0_lines f0_empty f0_hasHigh f0_highTop f0_highBottom f0_hasLow f0_lowTop f0_lowBottom f0_branches f0_leastThird f0_greatestThird a1 a2 a3 a4 a5 a6 a7 a8 a9 a10 a11 a12 a13 a14 a15 a16 a17 a18 a19 n s (nI i)) (fun i s => (i ≤ r0 → s = -1 ∨ ∃ q, q < i ∧ 0 < ap_at M q c ∧ s = nI q) ∧ (r0 < i → s = nI r0)) rows 0 (-1) (by omega) ⟨fun _ => Or.inl rfl, fun z => absurd z (by omega)⟩ ?_ ?_
  · intro n s h
    refine pk_le rows rows (fun _ => ?_) (fun z => absurd z (by omega))
    rw [h.2 h0]
    exact H
  · intro n i s hi h hw
    refine pk_le rows i (fun z => absurd z (by omega)) (fun _ => ?_)
    obtain ⟨e1, s1⟩ := hT i c (by omega) hc
    refine ap_cell i c (by omega) ?_
    rw [e1]
    refine ek_if (ap_Lle0 (ap_sb s1)) (fun z => nm_r (nI_1 i) (hw s ⟨fun g => ?_, fun g => ?_⟩)) (fun z => ?_)
    · rcases h.1 (by omega) with q | ⟨q, q1, q2, q3⟩
      · exact Or.inl q
      · exact Or.inr ⟨q, by omega, q2, q3⟩
    · by_cases y : i = r0
      · subst y
        omega
      · exact h.2 (by omega)
    · by_cases hs : s = -1
      · subst hs
        refine br_f (by decide) (br_f (by decide) (br_t (by decide) (br_f (by decide) (nm_r (nI_1 i) (hw (nI i) ⟨fun g => Or.inr ⟨i, by omega, by omega, rfl⟩, fun g => ?_⟩)))))
        by_cases y : r0 < i
        · have := h.2 y
          exact absurd this.symm (by rw [ap_nI, ← ap_Im1, ap_Ieq ⟨by omega, by omega⟩ ⟨by omega, by omega⟩]; omega)
        · rw [show i = r0 by omega]
      · obtain ⟨q, q1, q2, q3, q4⟩ : ∃ q, q < i ∧ 0 < ap_at M q c ∧ s = nI q ∧ (r0 < i → q = r0) := by
          by_cases y : r0 < i
          · exact ⟨r0, y, hp, h.2 y, fun _ => rfl⟩
          · rcases h.1 (by omega) with g | ⟨g, g1, g2, g3⟩
            · exact absurd g hs
            · exact ⟨g, g1, g2, g3, fun x => absurd x y⟩
        subst q3
        obtain ⟨e2, s2⟩ := hT i 4 (by omega) (by omega)
        obtain ⟨e3, s3⟩ := hT q c (by omega) hc
        obtain ⟨e4, s4⟩ := hT q 4 (by omega) (by omega)
        obtain ⟨e5, s5⟩ := hN i (by omega)
        obtain ⟨e6, s6⟩ := hN q (by omega)
        have take : ¬ r0 < i → wX_leaving_4 post (nI c) f0_present f0_without (nI rows) f0_turned f0_unit f0_columns f0_firstWorth f0_worthCount f0_worthTop f0_worthBottom f0_lines f0_empty f0_hasHigh f0_highTop f0_highBottom f0_hasLow f0_lowTop f0_lowBottom f0_branches f0_leastThird f0_greatestThird a1 a2 a3 a4 a5 a6 a7 a8 a9 a10 a11 a12 a13 a14 a15 a16 a17 a18 a19 n (nI i) (nI (i + 1)) := fun g => hw (nI i) ⟨fun _ => Or.inr ⟨i, by omega, by omega, rfl⟩, fun y => by rw [show i = r0 by omega]⟩
        have keep : ¬ i = r0 → wX_leaving_4 post (nI c) f0_present f0_without (nI rows) f0_turned f0_unit f0_columns f0_firstWorth f0_worthCount f0_worthTop f0_worthBottom f0_lines f0_empty f0_hasHigh f0_highTop f0_highBottom f0_hasLow f0_lowTop f0_lowBottom f0_branches f0_leastThird f0_greatestThird a1 a2 a3 a4 a5 a6 a7 a8 a9 a10 a11 a12 a13 a14 a15 a16 a17 a18 a19 n (nI q) (nI (i + 1)) := fun g => hw (nI q) ⟨fun _ => Or.inr ⟨q, by omega, q2, rfl⟩, fun y => by rw [q4 (by omega)]⟩
        refine br_t (nI_pos' (by omega)) (ap_cell i 4 (by omega) (ap_cell q c (by omega) ?_))
        refine br_t (nI_pos' (by omega)) (ap_cell q 4 (by omega) ?_)
        rw [e2, e3, e4, ap_Lmul, ap_Lmul]
        refine ek_if (ap_Llt (ap_smb s2 s3) (ap_smb s4 s1)) (fun y => ?_) (fun y => ?_)
        · refine br_f (by decide) (nm_r (nI_1 i) (take (fun g => ?_)))
          have eq := q4 g
          subst eq
          rcases hd i hi (by omega) (by omega) with d | ⟨d, _⟩ <;> omega
        · refine ek_if (ap_Leq (ap_smb s2 s3) (ap_smb s4 s1)) (fun x => ⟨pk_in i 16 (by omega), pk_in q 16 (by omega), ?_⟩) (fun x => ?_)
          · rw [pk_cl (x := nI i) i, pk_cl (x := nI q) q, e5, e6]
            refine pk_le _ _ (fun w => ?_) (fun w => ?_) rfl rfl (by omega) (by omega)
            · refine br_t rfl (nm_r (nI_1 i) (keep (fun g => ?_)))
              subst g
              rcases hd q (by omega) (by omega) q2 with d | ⟨d, d2⟩ <;> omega
            · refine br_f (by decide) (nm_r (nI_1 i) (take (fun g => ?_)))
              have eq := q4 g
              subst eq
              rcases hd i hi (by omega) (by omega) with d | ⟨d, d2⟩ <;> omega
          · refine br_t rfl (nm_r (nI_1 i) (keep (fun g => ?_)))
            subst g
            rcases hd q (by omega) (by omega) q2 with d | ⟨d, d2⟩ <;> omega
theorem ap_lowest {post : Int32 → Prop} {M : List (List Int)} {last rows : Nat} (hT : ap_T a10 last M) (hrl : rows ≤ last) (h21 : last ≤ 21) (h1 : 1 ≤ rows) (eR : f0_rows = nI rows)
    (H : ∀ q, q < rows → (∀ r, r < rows → ap_at M q 4 ≤ ap_at M r 4) → (∀ r, r < q → ap_at M q 4 < ap_at M r 4) → post (nI q)) : wpX_lowestRow post (f0_present, f0_without, f0_rows, f0_turned, f0_unit, f0_columns, f0_firstWorth, f0_worthCount, f0_worthTop, f0_worthBottom, f0_lines, f0_empty, f0_hasHigh, f0_highTop, f0_highBottom, f0_hasLow, f0_lowTop, f0_lowBottom, f0_branches, f0_leastThird, f0_greatestThird, a1, a2, a3, a4, a5, a6, a7, a8, a9, a10, a11, a12, a13, a14, a15, a16, a17, a18, a19) := by
  subst eR
  refine pk_loop (σ := Int32) (fun n i s => wX_lowestRow_4 post f0_present f0_without (nI rows) f0_turned f0_unit f0_columns f0_firstWorth f0_worthCount f0_worthTop f0_worthBottom f0_lines f0_empty f0_hasHigh f0_highTop f0_highBottom f0_hasLow f0_lowTop f0_lowBottom f0_branches f0_leastThird f0_greatestThird a1 a2 a3 a4 a5 a6 a7 a8 a9 a10 a11 a12 a13 a14 a15 a16 a17 a18 a19 n s (nI i)) (fun i s => ∃ q, q < i ∧ s = nI q ∧ (∀ r, r < i → ap_at M q 4 ≤ ap_at M r 4) ∧ (∀ r, r < q → ap_at M q 4 < ap_at M r 4)) rows 1 0 h1 ⟨0, by omega, rfl, fun r hr => by rw [show r = 0 by omega]; omega, fun r hr => absurd hr (by omega)⟩ ?_ ?_
  · rintro n s ⟨q, q1, q2, q3, q4⟩
    subst q2
    exact pk_le rows rows (fun _ => H q q1 q3 q4) (fun z => absurd z (by omega))
  · rintro n i s hi ⟨q, q1, q2, q3, q4⟩ hw
    subst q2
    refine pk_le rows i (fun z => absurd z (by omega)) (fun _ => ?_)
    obtain ⟨e1, s1⟩ := hT i 4 (by omega) (by omega)
    obtain ⟨e2, s2⟩ := hT q 4 (by omega) (by omega)
    refine ap_cell i 4 (by omega) (ap_cell q 4 (by omega) ?_)
    rw [e1, e2]
    refine ek_if (ap_Lle (ap_sb s2) (ap_sb s1)) (fun z => nm_r (nI_1 i) (hw _ ⟨q, by omega, rfl, lt_s q3 z, q4⟩)) (fun z => nm_r (nI_1 i) (hw _ ⟨i, by omega, rfl, fun r hr => ?_, fun r hr => ?_⟩))
    · by_cases y : r = i
      · rw [y]
        omega
      · have := q3 r (by omega)
        omega
    · have := q3 r hr
      omega
theorem ap_broken0 {post : Int32 → Prop} {M : List (List Int)} {last rows : Nat} (hT : ap_T a10 last M) (hrl : rows ≤ last) (h21 : last ≤ 21) (eR : f0_rows = nI rows)
    (hp : ∀ r, r < rows → 0 ≤ ap_at M r 4) (H : post (-1)) : wpX_brokenRow post (f0_present, f0_without, f0_rows, f0_turned, f0_unit, f0_columns, f0_firstWorth, f0_worthCount, f0_worthTop, f0_worthBottom, f0_lines, f0_empty, f0_hasHigh, f0_highTop, f0_highBottom, f0_hasLow, f0_lowTop, f0_lowBottom, f0_branches, f0_leastThird, f0_greatestThird, a1, a2, a3, a4, a5, a6, a7, a8, a9, a10, a11, a12, a13, a14, a15, a16, a17, a18, a19) := by
  subst eR
  refine pk_loop (σ := Unit) (fun n i _ => wX_brokenRow_4 post f0_present f0_without (nI rows) f0_turned f0_unit f0_columns f0_firstWorth f0_worthCount f0_worthTop f0_worthBottom f0_lines f0_empty f0_hasHigh f0_highTop f0_highBottom f0_hasLow f0_lowTop f0_lowBottom f0_branches f0_leastThird f0_greatestThird a1 a2 a3 a4 a5 a6 a7 a8 a9 a10 a11 a12 a13 a14 a15 a16 a17 a18 a19 n (-1) (nI i)) (fun _ _ => True) rows 0 () (by omega) trivial ?_ ?_
  · intro n _ _
    exact pk_le rows rows (fun _ => H) (fun z => absurd z (by omega))
  · intro n i _ hi _ hw
    refine pk_le rows i (fun z => absurd z (by omega)) (fun _ => ?_)
    obtain ⟨e1, s1⟩ := hT i 4 (by omega) (by omega)
    refine ap_cell i 4 (by omega) ?_
    rw [e1]
    exact ek_if (ap_Lge0 (ap_sb s1)) (fun z => nm_r (nI_1 i) (hw () trivial)) (fun z => absurd (hp i hi) z)
theorem ap_broken1 {post : Int32 → Prop} {M : List (List Int)} {last rows : Nat} {names : List Nat} (r0 : Nat) (hT : ap_T a10 last M) (hrl : rows ≤ last) (h21 : last ≤ 21) (h16 : rows ≤ 16) (eR : f0_rows = nI rows) (hN : ap_N a11 names) (hNl : rows ≤ names.length)
    (h0 : r0 < rows) (hp : ap_at M r0 4 < 0) (hd : ∀ r, r < rows → r ≠ r0 → ap_at M r 4 < 0 → names.getD r0 0 < names.getD r 0)
    (H : post (nI r0)) : wpX_brokenRow post (f0_present, f0_without, f0_rows, f0_turned, f0_unit, f0_columns, f0_firstWorth, f0_worthCount, f0_worthTop, f0_worthBottom, f0_lines, f0_empty, f0_hasHigh, f0_highTop, f0_highBottom, f0_hasLow, f0_lowTop, f0_lowBottom, f0_branches, f0_leastThird, f0_greatestThird, a1, a2, a3, a4, a5, a6, a7, a8, a9, a10, a11, a12, a13, a14, a15, a16, a17, a18, a19) := by
  subst eR
  refine pk_loop (σ := Int32) (fun n i s => wX_brokenRow_4 post f0_present f0_without (nI rows) f0_turned f0_unit f0_columns f0_firstWorth f0_worthCount f0_worthTop f0_worthBottom f0_lines f0_empty f0_hasHigh f0_highTop f0_highBottom f0_hasLow f0_lowTop f0_lowBottom f0_branches f0_leastThird f0_greatestThird a1 a2 a3 a4 a5 a6 a7 a8 a9 a10 a11 a12 a13 a14 a15 a16 a17 a18 a19 n s (nI i)) (fun i s => (i ≤ r0 → s = -1 ∨ ∃ q, q < i ∧ ap_at M q 4 < 0 ∧ s = nI q) ∧ (r0 < i → s = nI r0)) rows 0 (-1) (by omega) ⟨fun _ => Or.inl rfl, fun z => absurd z (by omega)⟩ ?_ ?_
  · intro n s h
    refine pk_le rows rows (fun _ => ?_) (fun z => absurd z (by omega))
    rw [h.2 h0]
    exact H
  · intro n i s hi h hw
    refine pk_le rows i (fun z => absurd z (by omega)) (fun _ => ?_)
    obtain ⟨e1, s1⟩ := hT i 4 (by omega) (by omega)
    refine ap_cell i 4 (by omega) ?_
    rw [e1]
    refine ek_if (ap_Lge0 (ap_sb s1)) (fun z => nm_r (nI_1 i) (hw s ⟨fun g => ?_, fun g => ?_⟩)) (fun z => ?_)
    · rcases h.1 (by omega) with q | ⟨q, q1, q2, q3⟩
      · exact Or.inl q
      · exact Or.inr ⟨q, by omega, q2, q3⟩
    · by_cases y : i = r0
      · subst y
        omega
      · exact h.2 (by omega)
    · by_cases hs : s = -1
      · subst hs
        refine br_t (by decide) (nm_r (nI_1 i) (hw (nI i) ⟨fun g => Or.inr ⟨i, by omega, by omega, rfl⟩, fun g => ?_⟩))
        by_cases y : r0 < i
        · have := h.2 y
          exact absurd this.symm (by rw [ap_nI, ← ap_Im1, ap_Ieq ⟨by omega, by omega⟩ ⟨by omega, by omega⟩]; omega)
        · rw [show i = r0 by omega]
      · obtain ⟨q, q1, q2, q3, q4⟩ : ∃ q, q < i ∧ ap_at M q 4 < 0 ∧ s = nI q ∧ (r0 < i → q = r0) := by
          by_cases y : r0 < i
          · exact ⟨r0, y, hp, h.2 y, fun _ => rfl⟩
          · rcases h.1 (by omega) with g | ⟨g, g1, g2, g3⟩
            · exact absurd g hs
            · exact ⟨g, g1, g2, g3, fun x => absurd x y⟩
        subst q3
        obtain ⟨e5, s5⟩ := hN i (by omega)
        obtain ⟨e6, s6⟩ := hN q (by omega)
        refine br_f (nI_pos (by omega)) ⟨pk_in i 16 (by omega), pk_in q 16 (by omega), ?_⟩
        rw [pk_cl (x := nI i) i, pk_cl (x := nI q) q, e5, e6]
        refine pk_le _ _ (fun w => ?_) (fun w => ?_) rfl rfl (by omega) (by omega)
        · refine nm_r (nI_1 i) (hw (nI q) ⟨fun _ => Or.inr ⟨q, by omega, q2, rfl⟩, fun y => ?_⟩)
          by_cases g : i = r0
          · subst g
            have := hd q (by omega) (by omega) q2
            omega
          · rw [q4 (by omega)]
        · refine nm_r (nI_1 i) (hw (nI i) ⟨fun _ => Or.inr ⟨i, by omega, by omega, rfl⟩, fun y => ?_⟩)
          by_cases g : r0 < i
          · have eq := q4 g
            subst eq
            have := hd i hi (by omega) (by omega)
            omega
          · rw [show i = r0 by omega]
end
end
section
section
variable {f0_present : Int32}
variable {f0_without : Int32}
variable {f0_rows : Int32}
variable {f0_turned : Int32}
variable {f0_unit : Int64}
variable {f0_columns : Int32}
variable {f0_firstWorth : Int32}
variable {f0_worthCount : Int32}
variable {f0_worthTop : Int64}
variable {f0_worthBottom : Int64}
variable {f0_lines : Int32}
variable {f0_empty : Int32}
variable {f0_hasHigh : Int32}
variable {f0_highTop : Int64}
variable {f0_highBottom : Int64}
variable {f0_hasLow : Int32}
variable {f0_lowTop : Int64}
variable {f0_lowBottom : Int64}
variable {f0_branches : Int32}
variable {f0_leastThird : Int32}
variable {f0_greatestThird : Int32}
variable {a1 : Nat → Int32}
variable {a2 : Nat → Int32}
variable {a3 : Nat → Int32}
variable {a4 : Nat → Int32}
variable {a5 : Nat → Int32}
variable {a6 : Nat → Int32}
variable {a7 : Nat → Int32}
variable {a8 : Nat → Int32}
variable {a9 : Nat → Int32}
variable {a10 : Nat → Int64}
variable {a11 : Nat → Int32}
variable {a12 : Nat → Int32}
variable {a13 : Nat → Int64}
variable {a14 : Nat → Int64}
variable {a15 : Nat → Int64}
variable {a16 : Nat → Int64}
variable {a17 : Nat → Int64}
variable {a18 : Nat → Int32}
variable {a19 : Nat → Int32}
/-- N is what an exchange at (row, col) makes of M over the unit u; sg: the sign of the pivot -/
def ap_cert (M N : List (List Int)) (u sg : Int) (row col ncol r c : Nat) : Prop :=
  if r = row then (if c = col then ap_at N r c = sg * u else ap_at N r c = sg * ap_at M r c)
  else if c = col then ap_at N r c = -(sg * ap_at M r c)
  else if c < ncol ∨ c = 4 then sg * (ap_at M r c * ap_at M row col - ap_at M r col * ap_at M row c) = u * ap_at N r c
  else ap_at N r c = sg * ap_at M r c
/-- the table at hand -/
def ap_G (rows ncol fw wc : Nat) (u : Int) (M : List (List Int)) (rn cn : List Nat) (x1 x2 x3 x4 : Int32) (x5 : Int64) (t : Nat → Int64) (b c : Nat → Int32) : Prop :=
  (x1 = nI rows ∧ x2 = nI ncol ∧ x3 = nI fw ∧ x4 = nI wc ∧ x5 = ap_L u) ∧ (0 < u ∧ ap_s u) ∧ (rows ≤ fw ∧ fw + wc ≤ 21 ∧ rows ≤ 16 ∧ ncol ≤ 4 ∧ rows ≤ rn.length ∧ ncol ≤ cn.length) ∧ ap_T t (fw + wc) M ∧ ap_N b rn ∧ ap_N c cn
theorem ap_Nset {a : Nat → Int32} {l : List Nat} {i k : Nat} (h : ap_N a l) (hi : i < l.length) (hk : k ≤ 99) : ap_N (upd a i (vp_nar .byte (nI k))) (l.set i k) := by
  intro j hj
  rw [List.length_set] at hj
  by_cases z : j = i
  · subst z
    rw [pk_us, ap_narN (by omega)]
    simp [List.getD_eq_getElem?_getD, hi, hk]
  · rw [pk_un z]
    have e : (l.set i k).getD j 0 = l.getD j 0 := by
      rw [List.getD_eq_getElem?_getD, List.getD_eq_getElem?_getD, List.getElem?_set_ne (fun q => z q.symm)]
    rw [e]
    exact h j hj
theorem ap_exL {M N : List (List Int)} {t : Nat → Int64} {u sg : Int} {row col ncol last : Nat} (hr : row < last) (hc : col < 4) (hT : ap_T t last M) (hu0 : 0 < u) (hus : ap_s u) (hsg : sg = 1 ∨ sg = -1)
    (cert : ∀ r c, r < last → c < 5 → ap_s (ap_at N r c) ∧ ap_cert M N u sg row col ncol r c) {r c : Nat} (h1 : r < last) (h2 : c < 5) : ap_ex t (ap_L u) row col ncol r c = ap_L (sg * ap_at N r c) := by
  have hs2 : ∀ x : Int, sg * (sg * x) = x := by
    intro x
    rcases hsg with e | e <;> rw [e] <;> omega
  obtain ⟨hN, hce⟩ := cert r c h1 h2
  obtain ⟨e1, s1⟩ := hT r c h1 h2
  unfold ap_cert at hce
  unfold ap_ex
  by_cases y : r = row
  · rw [if_pos y] at hce ⊢
    by_cases z : c = col
    · rw [if_pos z] at hce ⊢
      rw [hce, hs2]
    · rw [if_neg z] at hce ⊢
      rw [hce, hs2, e1]
  · rw [if_neg y] at hce ⊢
    by_cases z : c = col
    · rw [if_pos z] at hce ⊢
      rw [hce, e1, ap_Lneg, Int.mul_neg, hs2]
    · rw [if_neg z] at hce ⊢
      by_cases w : c < ncol ∨ c = 4
      · rw [if_pos w] at hce ⊢
        have eu : ¬ ap_L u = 0 := by
          rw [ap_Leq0 (ap_sb hus)]
          omega
        rw [if_neg eu]
        obtain ⟨e2, s2⟩ := hT row col hr (by omega)
        obtain ⟨e3, s3⟩ := hT r col h1 (by omega)
        obtain ⟨e4, s4⟩ := hT row c hr h2
        rw [e1, e2, e3, e4, ap_Lmul, ap_Lmul, ap_Lsub]
        refine ap_Lex (by omega) ?_ (ap_sb hus) (ap_smm s1 s2 s3 s4)
        have := congrArg (fun x => sg * x) hce
        rw [hs2] at this
        rw [this, Int.mul_left_comm]
      · rw [if_neg w] at hce ⊢
        rw [hce, hs2, e1]
theorem ap_exG {post : St2 → Prop} {rows ncol fw wc : Nat} {u : Int} {M : List (List Int)} {rn cn : List Nat} (sg : Int) (N : List (List Int)) (row col : Nat) (u2 : Int) (rn' cn' : List Nat) (g : ap_G rows ncol fw wc u M rn cn f0_rows f0_columns f0_firstWorth f0_worthCount f0_unit a10 a11 a12)
    (hu2 : sg * ap_at M row col = u2) (hrn : rn.set row (cn.getD col 0) = rn') (hcn : cn.set col (rn.getD row 0) = cn')
    (hr : row < rows) (hc : col < 4) (hcl : col < cn.length) (hsg : (sg = 1 ∧ 0 < ap_at M row col) ∨ (sg = -1 ∧ ap_at M row col < 0))
    (cert : ∀ r c, r < fw + wc → c < 5 → ap_s (ap_at N r c) ∧ ap_cert M N u sg row col ncol r c)
    (H : ∀ (u' : Int64) (t' : Nat → Int64) (b' c' : Nat → Int32), ap_G rows ncol fw wc u2 N rn' cn' f0_rows f0_columns f0_firstWorth f0_worthCount u' t' b' c' → post (f0_present, f0_without, f0_rows, f0_turned, u', f0_columns, f0_firstWorth, f0_worthCount, f0_worthTop, f0_worthBottom, f0_lines, f0_empty, f0_hasHigh, f0_highTop, f0_highBottom, f0_hasLow, f0_lowTop, f0_lowBottom, f0_branches, f0_leastThird, f0_greatestThird, a1, a2, a3, a4, a5, a6, a7, a8, a9, t', b', c', a13, a14, a15, a16, a17, a18, a19)) :
    wpX_exchange post (f0_present, f0_without, f0_rows, f0_turned, f0_unit, f0_columns, f0_firstWorth, f0_worthCount, f0_worthTop, f0_worthBottom, f0_lines, f0_empty, f0_hasHigh, f0_highTop, f0_highBottom, f0_hasLow, f0_lowTop, f0_lowBottom, f0_branches, f0_leastThird, f0_greatestThird, a1, a2, a3, a4, a5, a6, a7, a8, a9, a10, a11, a12, a13, a14, a15, a16, a17, a18, a19) (nI row) (nI col) := by
  subst hu2 hrn hcn
  obtain ⟨⟨g1, g2, g3, g4, g5⟩, ⟨g6, g7⟩, ⟨g8, g9, g10, g11, g12, g13⟩, g14, g15, g16⟩ := g
  have eF : f0_firstWorth + f0_worthCount = nI (fw + wc) := by rw [g3, g4, nI_add]
  obtain ⟨n1, n2⟩ := g15 row (by omega)
  obtain ⟨m1, m2⟩ := g16 col hcl
  obtain ⟨p1, p2⟩ := g14 row col (by omega) (by omega)
  have hs1 : sg = 1 ∨ sg = -1 := by
    rcases hsg with h | h
    · exact Or.inl h.1
    · exact Or.inr h.1
  refine ap_exchange (by omega) g9 (by omega) hc g11 g2 eF (fun u' t' h1 h2 => ?_)
  rw [p1] at h1 h2
  rw [g5] at h1 h2
  refine H u' t' _ _ ⟨⟨g1, g2, g3, g4, ?_⟩, ⟨?_, ?_⟩, ⟨g8, g9, g10, g11, ?_, ?_⟩, ?_, ?_, ?_⟩
  · rcases hsg with ⟨e, h⟩ | ⟨e, h⟩
    · rw [e, Int.one_mul]
      exact (h1 ((ap_Lge0 (ap_sb p2)).mpr (by omega))).1
    · rw [(h2 (fun z => absurd ((ap_Lge0 (ap_sb p2)).mp z) (by omega))).1, e, ap_Lneg, Int.neg_one_mul]
  · rcases hsg with ⟨e, h⟩ | ⟨e, h⟩ <;> rw [e] <;> omega
  · obtain ⟨q1, q2⟩ := p2
    rcases hsg with ⟨e, h⟩ | ⟨e, h⟩ <;> rw [e] <;> exact ⟨by omega, by omega⟩
  · rw [List.length_set]
    exact g12
  · rw [List.length_set]
    exact g13
  · intro r c k1 k2
    refine ⟨?_, (cert r c k1 k2).1⟩
    have ee := ap_exL (t := a10) (by omega) hc g14 g6 g7 hs1 cert k1 k2
    rcases hsg with ⟨e, h⟩ | ⟨e, h⟩
    · rw [(h1 ((ap_Lge0 (ap_sb p2)).mpr (by omega))).2 r c k1 k2, ee, e, Int.one_mul]
    · rw [(h2 (fun z => absurd ((ap_Lge0 (ap_sb p2)).mp z) (by omega))).2 r c k1 k2, ee, e, ap_Lneg, Int.neg_one_mul, Int.neg_neg]
  · rw [m1]
    exact ap_Nset g15 (by omega) m2
  · rw [n1]
    exact ap_Nset g16 hcl n2
theorem ap_climbS {post : St2 → Prop} {rows ncol fw wc n k : Nat} {u : Int} {M : List (List Int)} {rn cn : List Nat} (g : ap_G rows ncol fw wc u M rn cn f0_rows f0_columns f0_firstWorth f0_worthCount f0_unit a10 a11 a12) (hk : k < 1000)
    (hf : ∀ c, c < ncol → ¬ ap_hT M fw wc c) (H : post (f0_present, f0_without, f0_rows, f0_turned, f0_unit, f0_columns, f0_firstWorth, f0_worthCount, f0_worthTop, f0_worthBottom, f0_lines, f0_empty, f0_hasHigh, f0_highTop, f0_highBottom, f0_hasLow, f0_lowTop, f0_lowBottom, f0_branches, f0_leastThird, f0_greatestThird, a1, a2, a3, a4, a5, a6, a7, a8, a9, a10, a11, a12, a13, a14, a15, a16, a17, a18, a19)) : wX_climb_2 post (n + 1) (nI k) f0_present f0_without f0_rows f0_turned f0_unit f0_columns f0_firstWorth f0_worthCount f0_worthTop f0_worthBottom f0_lines f0_empty f0_hasHigh f0_highTop f0_highBottom f0_hasLow f0_lowTop f0_lowBottom f0_branches f0_leastThird f0_greatestThird a1 a2 a3 a4 a5 a6 a7 a8 a9 a10 a11 a12 a13 a14 a15 a16 a17 a18 a19 := by
  obtain ⟨⟨g1, g2, g3, g4, g5⟩, ⟨g6, g7⟩, ⟨g8, g9, g10, g11, g12, g13⟩, g14, g15, g16⟩ := g
  refine pk_le 100000 k (fun z => absurd z (by omega)) (fun _ => ?_)
  refine ap_enter0 g14 (Nat.le_refl _) g9 g11 g3 g4 g2 hf ?_
  exact br_f (by decide) (br_f (by decide) H)
theorem ap_climbG {post : St2 → Prop} {rows ncol fw wc n k : Nat} {u : Int} {M : List (List Int)} {rn cn : List Nat} (N : List (List Int)) (row col : Nat) (u2 : Int) (rn' cn' : List Nat) (g : ap_G rows ncol fw wc u M rn cn f0_rows f0_columns f0_firstWorth f0_worthCount f0_unit a10 a11 a12) (hu2 : 1 * ap_at M row col = u2) (hrn : rn.set row (cn.getD col 0) = rn') (hcn : cn.set col (rn.getD row 0) = cn') (hk : k < 1000)
    (hr : row < rows) (hc : col < ncol) (ht : ap_hT M fw wc col) (hf : ∀ c, c < ncol → c ≠ col → ¬ ap_hT M fw wc c) (hp : 0 < ap_at M row col)
    (hd : ∀ r, r < rows → r ≠ row → 0 < ap_at M r col → ap_at M row 4 * ap_at M r col < ap_at M r 4 * ap_at M row col ∨ (ap_at M row 4 * ap_at M r col = ap_at M r 4 * ap_at M row col ∧ rn.getD row 0 < rn.getD r 0))
    (cert : ∀ r c, r < fw + wc → c < 5 → ap_s (ap_at N r c) ∧ ap_cert M N u 1 row col ncol r c)
    (H : ∀ (u' : Int64) (t' : Nat → Int64) (b' c' : Nat → Int32), ap_G rows ncol fw wc u2 N rn' cn' f0_rows f0_columns f0_firstWorth f0_worthCount u' t' b' c' → wX_climb_2 post n (nI (k + 1)) f0_present f0_without f0_rows f0_turned u' f0_columns f0_firstWorth f0_worthCount f0_worthTop f0_worthBottom f0_lines f0_empty f0_hasHigh f0_highTop f0_highBottom f0_hasLow f0_lowTop f0_lowBottom f0_branches f0_leastThird f0_greatestThird a1 a2 a3 a4 a5 a6 a7 a8 a9 t' b' c' a13 a14 a15 a16 a17 a18 a19) :
    wX_climb_2 post (n + 1) (nI k) f0_present f0_without f0_rows f0_turned f0_unit f0_columns f0_firstWorth f0_worthCount f0_worthTop f0_worthBottom f0_lines f0_empty f0_hasHigh f0_highTop f0_highBottom f0_hasLow f0_lowTop f0_lowBottom f0_branches f0_leastThird f0_greatestThird a1 a2 a3 a4 a5 a6 a7 a8 a9 a10 a11 a12 a13 a14 a15 a16 a17 a18 a19 := by
  have gg := g
  obtain ⟨⟨g1, g2, g3, g4, g5⟩, ⟨g6, g7⟩, ⟨g8, g9, g10, g11, g12, g13⟩, g14, g15, g16⟩ := g
  refine pk_le 100000 k (fun z => absurd z (by omega)) (fun _ => ?_)
  refine ap_enter1 col g14 (Nat.le_refl _) g9 g11 g3 g4 g2 hc ht hf ?_
  refine br_t (nI_pos' (by omega)) ?_
  refine ap_leave row g14 (by omega) g9 g10 (by omega) g1 g15 g12 hr hp hd ?_
  refine br_t (nI_pos' (by omega)) ?_
  refine ap_exG 1 N row col u2 rn' cn' gg hu2 hrn hcn hr (by omega) (by omega) (Or.inl ⟨rfl, hp⟩) cert (fun u' t' b' c' h => ?_)
  exact nm_r (nI_1 k) (H u' t' b' c' h)
end
end
section
def ap_w (k x : Int) : Prop := -k ≤ x ∧ x ≤ k
/-- what is known of the numbers of a question -/
def ap_bd (p c R0 R1 R2 R3 R4 W0 W1 W2 W3 : Int) : Prop := (1 ≤ p ∧ p ≤ 7) ∧ (2 ≤ c ∧ c ≤ 5) ∧ (-1000 ≤ R0 ∧ R0 ≤ 1000) ∧ (-1000 ≤ R1 ∧ R1 ≤ 1000) ∧ (-1000 ≤ R2 ∧ R2 ≤ 1000) ∧ (-1000 ≤ R3 ∧ R3 ≤ 1000) ∧ (-1000 ≤ R4 ∧ R4 ≤ 1000) ∧ (-1000 ≤ W0 ∧ W0 ≤ 1000) ∧ (-1000 ≤ W1 ∧ W1 ≤ 1000) ∧ (-1000 ≤ W2 ∧ W2 ≤ 1000) ∧ (-1000 ≤ W3 ∧ W3 ≤ 1000)
  ∧ (-7000 ≤ R0 * c ∧ R0 * c ≤ 7000) ∧ (-7000 ≤ R1 * c ∧ R1 * c ≤ 7000) ∧ (-7000 ≤ R2 * c ∧ R2 * c ≤ 7000) ∧ (-7000 ≤ R1 * p ∧ R1 * p ≤ 7000) ∧ (-7000 ≤ R2 * p ∧ R2 * p ≤ 7000) ∧ (-7000 ≤ R3 * p ∧ R3 * p ≤ 7000) ∧ (-7000 ≤ R4 * p ∧ R4 * p ≤ 7000) ∧ (-7000 ≤ W0 * p ∧ W0 * p ≤ 7000) ∧ (-7000 ≤ W1 * p ∧ W1 * p ≤ 7000) ∧ (-7000 ≤ W2 * p ∧ W2 * p ≤ 7000) ∧ (-7000 ≤ W3 * p ∧ W3 * p ≤ 7000) ∧ (-7000 ≤ R0 * p ∧ R0 * p ≤ 7000)
theorem ap_pr {a b : Int} (ha : -1000 ≤ a ∧ a ≤ 1000) (hb : 1 ≤ b ∧ b ≤ 7) : -7000 ≤ a * b ∧ a * b ≤ 7000 := by
  have e : (a * b).natAbs ≤ 1000 * 7 := by
    rw [Int.natAbs_mul]
    exact Nat.mul_le_mul (by omega) (by omega)
  omega
theorem ap_bdI {p c R0 R1 R2 R3 R4 W0 W1 W2 W3 : Int} (hp : 1 ≤ p ∧ p ≤ 7) (hc : 2 ≤ c ∧ c ≤ 5) (h0 : -1000 ≤ R0 ∧ R0 ≤ 1000) (h1 : -1000 ≤ R1 ∧ R1 ≤ 1000) (h2 : -1000 ≤ R2 ∧ R2 ≤ 1000) (h3 : -1000 ≤ R3 ∧ R3 ≤ 1000) (h4 : -1000 ≤ R4 ∧ R4 ≤ 1000) (w0 : -1000 ≤ W0 ∧ W0 ≤ 1000) (w1 : -1000 ≤ W1 ∧ W1 ≤ 1000) (w2 : -1000 ≤ W2 ∧ W2 ≤ 1000) (w3 : -1000 ≤ W3 ∧ W3 ≤ 1000) : ap_bd p c R0 R1 R2 R3 R4 W0 W1 W2 W3 := by
  have hc' : 1 ≤ c ∧ c ≤ 7 := by omega
  exact ⟨hp, hc, h0, h1, h2, h3, h4, w0, w1, w2, w3, ap_pr h0 hc', ap_pr h1 hc', ap_pr h2 hc', ap_pr h1 hp, ap_pr h2 hp, ap_pr h3 hp, ap_pr h4 hp, ap_pr w0 hp, ap_pr w1 hp, ap_pr w2 hp, ap_pr w3 hp, ap_pr h0 hp⟩
theorem ap_c5 {P : Nat → Prop} (h0 : P 0) (h1 : P 1) (h2 : P 2) (h3 : P 3) (h4 : P 4) : ∀ c, c < 5 → P c := fun c hc => match c, hc with | 0, _ => h0 | 1, _ => h1 | 2, _ => h2 | 3, _ => h3 | 4, _ => h4 | n + 5, h => absurd h (by omega)
theorem ap_rc5 {P : Nat → Nat → Prop} (h0 : ∀ c, c < 5 → P 0 c) (h1 : ∀ c, c < 5 → P 1 c) (h2 : ∀ c, c < 5 → P 2 c) (h3 : ∀ c, c < 5 → P 3 c) (h4 : ∀ c, c < 5 → P 4 c) : ∀ r c, r < 5 → c < 5 → P r c := fun r c hr hc => match r, hr with | 0, _ => h0 c hc | 1, _ => h1 c hc | 2, _ => h2 c hc | 3, _ => h3 c hc | 4, _ => h4 c hc | n + 5, h => absurd h (by omega)
theorem ap_rc9 {P : Nat → Nat → Prop} (h0 : ∀ c, c < 5 → P 0 c) (h1 : ∀ c, c < 5 → P 1 c) (h2 : ∀ c, c < 5 → P 2 c) (h3 : ∀ c, c < 5 → P 3 c) (h4 : ∀ c, c < 5 → P 4 c) (h5 : ∀ c, c < 5 → P 5 c) (h6 : ∀ c, c < 5 → P 6 c) (h7 : ∀ c, c < 5 → P 7 c) (h8 : ∀ c, c < 5 → P 8 c) : ∀ r c, r < 9 → c < 5 → P r c := fun r c hr hc => match r, hr with | 0, _ => h0 c hc | 1, _ => h1 c hc | 2, _ => h2 c hc | 3, _ => h3 c hc | 4, _ => h4 c hc | 5, _ => h5 c hc | 6, _ => h6 c hc | 7, _ => h7 c hc | 8, _ => h8 c hc | n + 9, h => absurd h (by omega)
theorem ap_rc10 {P : Nat → Nat → Prop} (h0 : ∀ c, c < 5 → P 0 c) (h1 : ∀ c, c < 5 → P 1 c) (h2 : ∀ c, c < 5 → P 2 c) (h3 : ∀ c, c < 5 → P 3 c) (h4 : ∀ c, c < 5 → P 4 c) (h5 : ∀ c, c < 5 → P 5 c) (h6 : ∀ c, c < 5 → P 6 c) (h7 : ∀ c, c < 5 → P 7 c) (h8 : ∀ c, c < 5 → P 8 c) (h9 : ∀ c, c < 5 → P 9 c) : ∀ r c, r < 10 → c < 5 → P r c := fun r c hr hc => match r, hr with | 0, _ => h0 c hc | 1, _ => h1 c hc | 2, _ => h2 c hc | 3, _ => h3 c hc | 4, _ => h4 c hc | 5, _ => h5 c hc | 6, _ => h6 c hc | 7, _ => h7 c hc | 8, _ => h8 c hc | 9, _ => h9 c hc | n + 10, h => absurd h (by omega)
def ap_MA (p c R0 R1 R2 R3 R4 W0 W1 W2 W3 : Int) : List (List Int) := [[p, 0, 0, 0, R0], [1, -1, 0, 0, R1], [1, 0, 0, 0, R2], [0, 1, 0, 0, R3], [0, 0, 1, 0, R4], [-c, 1, 0, 0, W0], [1, 0, 0, 0, W1], [0, 1, 0, 0, W2], [0, 0, 1, 0, W3]]
def ap_MA10 (p c R0 R1 R2 R3 R4 W0 W1 W2 W3 : Int) : List (List Int) := [[-p, p, 0, 0, R0 - R1 * p], [1, -1, 0, 0, R1], [-1, 1, 0, 0, -R1 + R2], [0, 1, 0, 0, R3], [0, 0, 1, 0, R4], [c, 1 - c, 0, 0, W0 + R1 * c], [-1, 1, 0, 0, -R1 + W1], [0, 1, 0, 0, W2], [0, 0, 1, 0, W3]]
theorem ap_cA10 {p c R0 R1 R2 R3 R4 W0 W1 W2 W3 : Int} (h : ap_bd p c R0 R1 R2 R3 R4 W0 W1 W2 W3) : ∀ r c', r < 9 → c' < 5 → ap_s (ap_at (ap_MA10 p c R0 R1 R2 R3 R4 W0 W1 W2 W3) r c') ∧ ap_cert (ap_MA p c R0 R1 R2 R3 R4 W0 W1 W2 W3) (ap_MA10 p c R0 R1 R2 R3 R4 W0 W1 W2 W3) 1 1 1 0 3 r c' := by
  obtain ⟨hp, hc, hR0, hR1, hR2, hR3, hR4, hW0, hW1, hW2, hW3, q1, q2, q3, q4, q5, q6, q7, q8, q9, q10, q11, q12⟩ := h
  refine ap_rc9 (ap_c5 ?_ ?_ ?_ ?_ ?_) (ap_c5 ?_ ?_ ?_ ?_ ?_) (ap_c5 ?_ ?_ ?_ ?_ ?_) (ap_c5 ?_ ?_ ?_ ?_ ?_) (ap_c5 ?_ ?_ ?_ ?_ ?_) (ap_c5 ?_ ?_ ?_ ?_ ?_) (ap_c5 ?_ ?_ ?_ ?_ ?_) (ap_c5 ?_ ?_ ?_ ?_ ?_) (ap_c5 ?_ ?_ ?_ ?_ ?_)
  · exact show ((-1000000 : Int) ≤ (-p) ∧ (-p) ≤ (1000000 : Int)) ∧ ((-p : Int) = -((1 : Int) * p)) from ⟨⟨by omega, by omega⟩, by grind⟩
  · exact show ((-1000000 : Int) ≤ p ∧ p ≤ (1000000 : Int)) ∧ ((1 : Int) * (0 * 1 - p * (-1)) = 1 * p) from ⟨⟨by omega, by omega⟩, by grind⟩
  · exact show ((-1000000 : Int) ≤ 0 ∧ 0 ≤ (1000000 : Int)) ∧ ((1 : Int) * (0 * 1 - p * 0) = 1 * 0) from ⟨⟨by decide, by decide⟩, by grind⟩
  · exact show ((-1000000 : Int) ≤ 0 ∧ 0 ≤ (1000000 : Int)) ∧ ((0 : Int) = (1 : Int) * 0) from ⟨⟨by decide, by decide⟩, by grind⟩
  · exact show ((-1000000 : Int) ≤ (R0 - R1 * p) ∧ (R0 - R1 * p) ≤ (1000000 : Int)) ∧ ((1 : Int) * (R0 * 1 - p * R1) = 1 * (R0 - R1 * p)) from ⟨⟨by omega, by omega⟩, by grind⟩
  · exact show ((-1000000 : Int) ≤ 1 ∧ 1 ≤ (1000000 : Int)) ∧ ((1 : Int) = (1 : Int) * 1) from ⟨⟨by decide, by decide⟩, by decide⟩
  · exact show ((-1000000 : Int) ≤ (-1) ∧ (-1) ≤ (1000000 : Int)) ∧ ((-1 : Int) = (1 : Int) * (-1)) from ⟨⟨by decide, by decide⟩, by decide⟩
  · exact show ((-1000000 : Int) ≤ 0 ∧ 0 ≤ (1000000 : Int)) ∧ ((0 : Int) = (1 : Int) * 0) from ⟨⟨by decide, by decide⟩, by decide⟩
  · exact show ((-1000000 : Int) ≤ 0 ∧ 0 ≤ (1000000 : Int)) ∧ ((0 : Int) = (1 : Int) * 0) from ⟨⟨by decide, by decide⟩, by decide⟩
  · exact show ((-1000000 : Int) ≤ R1 ∧ R1 ≤ (1000000 : Int)) ∧ ((R1 : Int) = (1 : Int) * R1) from ⟨⟨by omega, by omega⟩, by grind⟩
  · exact show ((-1000000 : Int) ≤ (-1) ∧ (-1) ≤ (1000000 : Int)) ∧ ((-1 : Int) = -((1 : Int) * 1)) from ⟨⟨by decide, by decide⟩, by decide⟩
  · exact show ((-1000000 : Int) ≤ 1 ∧ 1 ≤ (1000000 : Int)) ∧ ((1 : Int) * (0 * 1 - 1 * (-1)) = 1 * 1) from ⟨⟨by decide, by decide⟩, by decide⟩
  · exact show ((-1000000 : Int) ≤ 0 ∧ 0 ≤ (1000000 : Int)) ∧ ((1 : Int) * (0 * 1 - 1 * 0) = 1 * 0) from ⟨⟨by decide, by decide⟩, by decide⟩
  · exact show ((-1000000 : Int) ≤ 0 ∧ 0 ≤ (1000000 : Int)) ∧ ((0 : Int) = (1 : Int) * 0) from ⟨⟨by decide, by decide⟩, by decide⟩
  · exact show ((-1000000 : Int) ≤ (-R1 + R2) ∧ (-R1 + R2) ≤ (1000000 : Int)) ∧ ((1 : Int) * (R2 * 1 - 1 * R1) = 1 * (-R1 + R2)) from ⟨⟨by omega, by omega⟩, by grind⟩
  · exact show ((-1000000 : Int) ≤ 0 ∧ 0 ≤ (1000000 : Int)) ∧ ((0 : Int) = -((1 : Int) * 0)) from ⟨⟨by decide, by decide⟩, by decide⟩
  · exact show ((-1000000 : Int) ≤ 1 ∧ 1 ≤ (1000000 : Int)) ∧ ((1 : Int) * (1 * 1 - 0 * (-1)) = 1 * 1) from ⟨⟨by decide, by decide⟩, by decide⟩
  · exact show ((-1000000 : Int) ≤ 0 ∧ 0 ≤ (1000000 : Int)) ∧ ((1 : Int) * (0 * 1 - 0 * 0) = 1 * 0) from ⟨⟨by decide, by decide⟩, by decide⟩
  · exact show ((-1000000 : Int) ≤ 0 ∧ 0 ≤ (1000000 : Int)) ∧ ((0 : Int) = (1 : Int) * 0) from ⟨⟨by decide, by decide⟩, by decide⟩
  · exact show ((-1000000 : Int) ≤ R3 ∧ R3 ≤ (1000000 : Int)) ∧ ((1 : Int) * (R3 * 1 - 0 * R1) = 1 * R3) from ⟨⟨by omega, by omega⟩, by grind⟩
  · exact show ((-1000000 : Int) ≤ 0 ∧ 0 ≤ (1000000 : Int)) ∧ ((0 : Int) = -((1 : Int) * 0)) from ⟨⟨by decide, by decide⟩, by decide⟩
  · exact show ((-1000000 : Int) ≤ 0 ∧ 0 ≤ (1000000 : Int)) ∧ ((1 : Int) * (0 * 1 - 0 * (-1)) = 1 * 0) from ⟨⟨by decide, by decide⟩, by decide⟩
  · exact show ((-1000000 : Int) ≤ 1 ∧ 1 ≤ (1000000 : Int)) ∧ ((1 : Int) * (1 * 1 - 0 * 0) = 1 * 1) from ⟨⟨by decide, by decide⟩, by decide⟩
  · exact show ((-1000000 : Int) ≤ 0 ∧ 0 ≤ (1000000 : Int)) ∧ ((0 : Int) = (1 : Int) * 0) from ⟨⟨by decide, by decide⟩, by decide⟩
  · exact show ((-1000000 : Int) ≤ R4 ∧ R4 ≤ (1000000 : Int)) ∧ ((1 : Int) * (R4 * 1 - 0 * R1) = 1 * R4) from ⟨⟨by omega, by omega⟩, by grind⟩
  · exact show ((-1000000 : Int) ≤ c ∧ c ≤ (1000000 : Int)) ∧ ((c : Int) = -((1 : Int) * (-c))) from ⟨⟨by omega, by omega⟩, by grind⟩
  · exact show ((-1000000 : Int) ≤ (1 - c) ∧ (1 - c) ≤ (1000000 : Int)) ∧ ((1 : Int) * (1 * 1 - (-c) * (-1)) = 1 * (1 - c)) from ⟨⟨by omega, by omega⟩, by grind⟩
  · exact show ((-1000000 : Int) ≤ 0 ∧ 0 ≤ (1000000 : Int)) ∧ ((1 : Int) * (0 * 1 - (-c) * 0) = 1 * 0) from ⟨⟨by decide, by decide⟩, by grind⟩
  · exact show ((-1000000 : Int) ≤ 0 ∧ 0 ≤ (1000000 : Int)) ∧ ((0 : Int) = (1 : Int) * 0) from ⟨⟨by decide, by decide⟩, by grind⟩
  · exact show ((-1000000 : Int) ≤ (W0 + R1 * c) ∧ (W0 + R1 * c) ≤ (1000000 : Int)) ∧ ((1 : Int) * (W0 * 1 - (-c) * R1) = 1 * (W0 + R1 * c)) from ⟨⟨by omega, by omega⟩, by grind⟩
  · exact show ((-1000000 : Int) ≤ (-1) ∧ (-1) ≤ (1000000 : Int)) ∧ ((-1 : Int) = -((1 : Int) * 1)) from ⟨⟨by decide, by decide⟩, by decide⟩
  · exact show ((-1000000 : Int) ≤ 1 ∧ 1 ≤ (1000000 : Int)) ∧ ((1 : Int) * (0 * 1 - 1 * (-1)) = 1 * 1) from ⟨⟨by decide, by decide⟩, by decide⟩
  · exact show ((-1000000 : Int) ≤ 0 ∧ 0 ≤ (1000000 : Int)) ∧ ((1 : Int) * (0 * 1 - 1 * 0) = 1 * 0) from ⟨⟨by decide, by decide⟩, by decide⟩
  · exact show ((-1000000 : Int) ≤ 0 ∧ 0 ≤ (1000000 : Int)) ∧ ((0 : Int) = (1 : Int) * 0) from ⟨⟨by decide, by decide⟩, by decide⟩
  · exact show ((-1000000 : Int) ≤ (-R1 + W1) ∧ (-R1 + W1) ≤ (1000000 : Int)) ∧ ((1 : Int) * (W1 * 1 - 1 * R1) = 1 * (-R1 + W1)) from ⟨⟨by omega, by omega⟩, by grind⟩
  · exact show ((-1000000 : Int) ≤ 0 ∧ 0 ≤ (1000000 : Int)) ∧ ((0 : Int) = -((1 : Int) * 0)) from ⟨⟨by decide, by decide⟩, by decide⟩
  · exact show ((-1000000 : Int) ≤ 1 ∧ 1 ≤ (1000000 : Int)) ∧ ((1 : Int) * (1 * 1 - 0 * (-1)) = 1 * 1) from ⟨⟨by decide, by decide⟩, by decide⟩
  · exact show ((-1000000 : Int) ≤ 0 ∧ 0 ≤ (1000000 : Int)) ∧ ((1 : Int) * (0 * 1 - 0 * 0) = 1 * 0) from ⟨⟨by decide, by decide⟩, by decide⟩
  · exact show ((-1000000 : Int) ≤ 0 ∧ 0 ≤ (1000000 : Int)) ∧ ((0 : Int) = (1 : Int) * 0) from ⟨⟨by decide, by decide⟩, by decide⟩
  · exact show ((-1000000 : Int) ≤ W2 ∧ W2 ≤ (1000000 : Int)) ∧ ((1 : Int) * (W2 * 1 - 0 * R1) = 1 * W2) from ⟨⟨by omega, by omega⟩, by grind⟩
  · exact show ((-1000000 : Int) ≤ 0 ∧ 0 ≤ (1000000 : Int)) ∧ ((0 : Int) = -((1 : Int) * 0)) from ⟨⟨by decide, by decide⟩, by decide⟩
  · exact show ((-1000000 : Int) ≤ 0 ∧ 0 ≤ (1000000 : Int)) ∧ ((1 : Int) * (0 * 1 - 0 * (-1)) = 1 * 0) from ⟨⟨by decide, by decide⟩, by decide⟩
  · exact show ((-1000000 : Int) ≤ 1 ∧ 1 ≤ (1000000 : Int)) ∧ ((1 : Int) * (1 * 1 - 0 * 0) = 1 * 1) from ⟨⟨by decide, by decide⟩, by decide⟩
  · exact show ((-1000000 : Int) ≤ 0 ∧ 0 ≤ (1000000 : Int)) ∧ ((0 : Int) = (1 : Int) * 0) from ⟨⟨by decide, by decide⟩, by decide⟩
  · exact show ((-1000000 : Int) ≤ W3 ∧ W3 ≤ (1000000 : Int)) ∧ ((1 : Int) * (W3 * 1 - 0 * R1) = 1 * W3) from ⟨⟨by omega, by omega⟩, by grind⟩
def ap_MA1 (p c R0 R1 R2 R3 R4 W0 W1 W2 W3 : Int) : List (List Int) := [[-p, 1, 0, 0, R0 - R1 * p], [0, 1, 0, 0, R0], [0, -1, 0, 0, -R0 + R2 * p], [p, -1, 0, 0, -R0 + R1 * p + R3 * p], [0, 0, p, 0, R4 * p], [p, -1 + c, 0, 0, -R0 + R0 * c + R1 * p + W0 * p], [0, -1, 0, 0, -R0 + W1 * p], [p, -1, 0, 0, -R0 + R1 * p + W2 * p], [0, 0, p, 0, W3 * p]]
theorem ap_cA1 {p c R0 R1 R2 R3 R4 W0 W1 W2 W3 : Int} (h : ap_bd p c R0 R1 R2 R3 R4 W0 W1 W2 W3) : ∀ r c', r < 9 → c' < 5 → ap_s (ap_at (ap_MA1 p c R0 R1 R2 R3 R4 W0 W1 W2 W3) r c') ∧ ap_cert (ap_MA10 p c R0 R1 R2 R3 R4 W0 W1 W2 W3) (ap_MA1 p c R0 R1 R2 R3 R4 W0 W1 W2 W3) 1 1 0 1 3 r c' := by
  obtain ⟨hp, hc, hR0, hR1, hR2, hR3, hR4, hW0, hW1, hW2, hW3, q1, q2, q3, q4, q5, q6, q7, q8, q9, q10, q11, q12⟩ := h
  refine ap_rc9 (ap_c5 ?_ ?_ ?_ ?_ ?_) (ap_c5 ?_ ?_ ?_ ?_ ?_) (ap_c5 ?_ ?_ ?_ ?_ ?_) (ap_c5 ?_ ?_ ?_ ?_ ?_) (ap_c5 ?_ ?_ ?_ ?_ ?_) (ap_c5 ?_ ?_ ?_ ?_ ?_) (ap_c5 ?_ ?_ ?_ ?_ ?_) (ap_c5 ?_ ?_ ?_ ?_ ?_) (ap_c5 ?_ ?_ ?_ ?_ ?_)
  · exact show ((-1000000 : Int) ≤ (-p) ∧ (-p) ≤ (1000000 : Int)) ∧ ((-p : Int) = (1 : Int) * (-p)) from ⟨⟨by omega, by omega⟩, by grind⟩
  · exact show ((-1000000 : Int) ≤ 1 ∧ 1 ≤ (1000000 : Int)) ∧ ((1 : Int) = (1 : Int) * 1) from ⟨⟨by decide, by decide⟩, by grind⟩
  · exact show ((-1000000 : Int) ≤ 0 ∧ 0 ≤ (1000000 : Int)) ∧ ((0 : Int) = (1 : Int) * 0) from ⟨⟨by decide, by decide⟩, by grind⟩
  · exact show ((-1000000 : Int) ≤ 0 ∧ 0 ≤ (1000000 : Int)) ∧ ((0 : Int) = (1 : Int) * 0) from ⟨⟨by decide, by decide⟩, by grind⟩
  · exact show ((-1000000 : Int) ≤ (R0 - R1 * p) ∧ (R0 - R1 * p) ≤ (1000000 : Int)) ∧ ((R0 - R1 * p : Int) = (1 : Int) * (R0 - R1 * p)) from ⟨⟨by omega, by omega⟩, by grind⟩
  · exact show ((-1000000 : Int) ≤ 0 ∧ 0 ≤ (1000000 : Int)) ∧ ((1 : Int) * (1 * p - (-1) * (-p)) = 1 * 0) from ⟨⟨by decide, by decide⟩, by grind⟩
  · exact show ((-1000000 : Int) ≤ 1 ∧ 1 ≤ (1000000 : Int)) ∧ ((1 : Int) = -((1 : Int) * (-1))) from ⟨⟨by decide, by decide⟩, by grind⟩
  · exact show ((-1000000 : Int) ≤ 0 ∧ 0 ≤ (1000000 : Int)) ∧ ((1 : Int) * (0 * p - (-1) * 0) = 1 * 0) from ⟨⟨by decide, by decide⟩, by grind⟩
  · exact show ((-1000000 : Int) ≤ 0 ∧ 0 ≤ (1000000 : Int)) ∧ ((0 : Int) = (1 : Int) * 0) from ⟨⟨by decide, by decide⟩, by grind⟩
  · exact show ((-1000000 : Int) ≤ R0 ∧ R0 ≤ (1000000 : Int)) ∧ ((1 : Int) * (R1 * p - (-1) * (R0 - R1 * p)) = 1 * R0) from ⟨⟨by omega, by omega⟩, by grind⟩
  · exact show ((-1000000 : Int) ≤ 0 ∧ 0 ≤ (1000000 : Int)) ∧ ((1 : Int) * ((-1) * p - 1 * (-p)) = 1 * 0) from ⟨⟨by decide, by decide⟩, by grind⟩
  · exact show ((-1000000 : Int) ≤ (-1) ∧ (-1) ≤ (1000000 : Int)) ∧ ((-1 : Int) = -((1 : Int) * 1)) from ⟨⟨by decide, by decide⟩, by grind⟩
  · exact show ((-1000000 : Int) ≤ 0 ∧ 0 ≤ (1000000 : Int)) ∧ ((1 : Int) * (0 * p - 1 * 0) = 1 * 0) from ⟨⟨by decide, by decide⟩, by grind⟩
  · exact show ((-1000000 : Int) ≤ 0 ∧ 0 ≤ (1000000 : Int)) ∧ ((0 : Int) = (1 : Int) * 0) from ⟨⟨by decide, by decide⟩, by grind⟩
  · exact show ((-1000000 : Int) ≤ (-R0 + R2 * p) ∧ (-R0 + R2 * p) ≤ (1000000 : Int)) ∧ ((1 : Int) * ((-R1 + R2) * p - 1 * (R0 - R1 * p)) = 1 * (-R0 + R2 * p)) from ⟨⟨by omega, by omega⟩, by grind⟩
  · exact show ((-1000000 : Int) ≤ p ∧ p ≤ (1000000 : Int)) ∧ ((1 : Int) * (0 * p - 1 * (-p)) = 1 * p) from ⟨⟨by omega, by omega⟩, by grind⟩
  · exact show ((-1000000 : Int) ≤ (-1) ∧ (-1) ≤ (1000000 : Int)) ∧ ((-1 : Int) = -((1 : Int) * 1)) from ⟨⟨by decide, by decide⟩, by grind⟩
  · exact show ((-1000000 : Int) ≤ 0 ∧ 0 ≤ (1000000 : Int)) ∧ ((1 : Int) * (0 * p - 1 * 0) = 1 * 0) from ⟨⟨by decide, by decide⟩, by grind⟩
  · exact show ((-1000000 : Int) ≤ 0 ∧ 0 ≤ (1000000 : Int)) ∧ ((0 : Int) = (1 : Int) * 0) from ⟨⟨by decide, by decide⟩, by grind⟩
  · exact show ((-1000000 : Int) ≤ (-R0 + R1 * p + R3 * p) ∧ (-R0 + R1 * p + R3 * p) ≤ (1000000 : Int)) ∧ ((1 : Int) * (R3 * p - 1 * (R0 - R1 * p)) = 1 * (-R0 + R1 * p + R3 * p)) from ⟨⟨by omega, by omega⟩, by grind⟩
  · exact show ((-1000000 : Int) ≤ 0 ∧ 0 ≤ (1000000 : Int)) ∧ ((1 : Int) * (0 * p - 0 * (-p)) = 1 * 0) from ⟨⟨by decide, by decide⟩, by grind⟩
  · exact show ((-1000000 : Int) ≤ 0 ∧ 0 ≤ (1000000 : Int)) ∧ ((0 : Int) = -((1 : Int) * 0)) from ⟨⟨by decide, by decide⟩, by grind⟩
  · exact show ((-1000000 : Int) ≤ p ∧ p ≤ (1000000 : Int)) ∧ ((1 : Int) * (1 * p - 0 * 0) = 1 * p) from ⟨⟨by omega, by omega⟩, by grind⟩
  · exact show ((-1000000 : Int) ≤ 0 ∧ 0 ≤ (1000000 : Int)) ∧ ((0 : Int) = (1 : Int) * 0) from ⟨⟨by decide, by decide⟩, by grind⟩
  · exact show ((-1000000 : Int) ≤ (R4 * p) ∧ (R4 * p) ≤ (1000000 : Int)) ∧ ((1 : Int) * (R4 * p - 0 * (R0 - R1 * p)) = 1 * (R4 * p)) from ⟨⟨by omega, by omega⟩, by grind⟩
  · exact show ((-1000000 : Int) ≤ p ∧ p ≤ (1000000 : Int)) ∧ ((1 : Int) * (c * p - (1 - c) * (-p)) = 1 * p) from ⟨⟨by omega, by omega⟩, by grind⟩
  · exact show ((-1000000 : Int) ≤ (-1 + c) ∧ (-1 + c) ≤ (1000000 : Int)) ∧ ((-1 + c : Int) = -((1 : Int) * (1 - c))) from ⟨⟨by omega, by omega⟩, by grind⟩
  · exact show ((-1000000 : Int) ≤ 0 ∧ 0 ≤ (1000000 : Int)) ∧ ((1 : Int) * (0 * p - (1 - c) * 0) = 1 * 0) from ⟨⟨by decide, by decide⟩, by grind⟩
  · exact show ((-1000000 : Int) ≤ 0 ∧ 0 ≤ (1000000 : Int)) ∧ ((0 : Int) = (1 : Int) * 0) from ⟨⟨by decide, by decide⟩, by grind⟩
  · exact show ((-1000000 : Int) ≤ (-R0 + R0 * c + R1 * p + W0 * p) ∧ (-R0 + R0 * c + R1 * p + W0 * p) ≤ (1000000 : Int)) ∧ ((1 : Int) * ((W0 + R1 * c) * p - (1 - c) * (R0 - R1 * p)) = 1 * (-R0 + R0 * c + R1 * p + W0 * p)) from ⟨⟨by omega, by omega⟩, by grind⟩
  · exact show ((-1000000 : Int) ≤ 0 ∧ 0 ≤ (1000000 : Int)) ∧ ((1 : Int) * ((-1) * p - 1 * (-p)) = 1 * 0) from ⟨⟨by decide, by decide⟩, by grind⟩
  · exact show ((-1000000 : Int) ≤ (-1) ∧ (-1) ≤ (1000000 : Int)) ∧ ((-1 : Int) = -((1 : Int) * 1)) from ⟨⟨by decide, by decide⟩, by grind⟩
  · exact show ((-1000000 : Int) ≤ 0 ∧ 0 ≤ (1000000 : Int)) ∧ ((1 : Int) * (0 * p - 1 * 0) = 1 * 0) from ⟨⟨by decide, by decide⟩, by grind⟩
  · exact show ((-1000000 : Int) ≤ 0 ∧ 0 ≤ (1000000 : Int)) ∧ ((0 : Int) = (1 : Int) * 0) from ⟨⟨by decide, by decide⟩, by grind⟩
  · exact show ((-1000000 : Int) ≤ (-R0 + W1 * p) ∧ (-R0 + W1 * p) ≤ (1000000 : Int)) ∧ ((1 : Int) * ((-R1 + W1) * p - 1 * (R0 - R1 * p)) = 1 * (-R0 + W1 * p)) from ⟨⟨by omega, by omega⟩, by grind⟩
  · exact show ((-1000000 : Int) ≤ p ∧ p ≤ (1000000 : Int)) ∧ ((1 : Int) * (0 * p - 1 * (-p)) = 1 * p) from ⟨⟨by omega, by omega⟩, by grind⟩
  · exact show ((-1000000 : Int) ≤ (-1) ∧ (-1) ≤ (1000000 : Int)) ∧ ((-1 : Int) = -((1 : Int) * 1)) from ⟨⟨by decide, by decide⟩, by grind⟩
  · exact show ((-1000000 : Int) ≤ 0 ∧ 0 ≤ (1000000 : Int)) ∧ ((1 : Int) * (0 * p - 1 * 0) = 1 * 0) from ⟨⟨by decide, by decide⟩, by grind⟩
  · exact show ((-1000000 : Int) ≤ 0 ∧ 0 ≤ (1000000 : Int)) ∧ ((0 : Int) = (1 : Int) * 0) from ⟨⟨by decide, by decide⟩, by grind⟩
  · exact show ((-1000000 : Int) ≤ (-R0 + R1 * p + W2 * p) ∧ (-R0 + R1 * p + W2 * p) ≤ (1000000 : Int)) ∧ ((1 : Int) * (W2 * p - 1 * (R0 - R1 * p)) = 1 * (-R0 + R1 * p + W2 * p)) from ⟨⟨by omega, by omega⟩, by grind⟩
  · exact show ((-1000000 : Int) ≤ 0 ∧ 0 ≤ (1000000 : Int)) ∧ ((1 : Int) * (0 * p - 0 * (-p)) = 1 * 0) from ⟨⟨by decide, by decide⟩, by grind⟩
  · exact show ((-1000000 : Int) ≤ 0 ∧ 0 ≤ (1000000 : Int)) ∧ ((0 : Int) = -((1 : Int) * 0)) from ⟨⟨by decide, by decide⟩, by grind⟩
  · exact show ((-1000000 : Int) ≤ p ∧ p ≤ (1000000 : Int)) ∧ ((1 : Int) * (1 * p - 0 * 0) = 1 * p) from ⟨⟨by omega, by omega⟩, by grind⟩
  · exact show ((-1000000 : Int) ≤ 0 ∧ 0 ≤ (1000000 : Int)) ∧ ((0 : Int) = (1 : Int) * 0) from ⟨⟨by decide, by decide⟩, by grind⟩
  · exact show ((-1000000 : Int) ≤ (W3 * p) ∧ (W3 * p) ≤ (1000000 : Int)) ∧ ((1 : Int) * (W3 * p - 0 * (R0 - R1 * p)) = 1 * (W3 * p)) from ⟨⟨by omega, by omega⟩, by grind⟩
def ap_MA2 (p c R0 R1 R2 R3 R4 W0 W1 W2 W3 : Int) : List (List Int) := [[0, -p, 0, 0, R0 - R2 * p], [0, 1, 0, 0, R2], [-1, 1, 0, 0, -R1 + R2], [1, -1, 0, 0, R1 - R2 + R3], [0, 0, 1, 0, R4], [1, -1 + c, 0, 0, R1 - R2 + W0 + R2 * c], [0, -1, 0, 0, -R2 + W1], [1, -1, 0, 0, R1 - R2 + W2], [0, 0, 1, 0, W3]]
theorem ap_cA2 {p c R0 R1 R2 R3 R4 W0 W1 W2 W3 : Int} (h : ap_bd p c R0 R1 R2 R3 R4 W0 W1 W2 W3) : ∀ r c', r < 9 → c' < 5 → ap_s (ap_at (ap_MA2 p c R0 R1 R2 R3 R4 W0 W1 W2 W3) r c') ∧ ap_cert (ap_MA10 p c R0 R1 R2 R3 R4 W0 W1 W2 W3) (ap_MA2 p c R0 R1 R2 R3 R4 W0 W1 W2 W3) 1 1 2 1 3 r c' := by
  obtain ⟨hp, hc, hR0, hR1, hR2, hR3, hR4, hW0, hW1, hW2, hW3, q1, q2, q3, q4, q5, q6, q7, q8, q9, q10, q11, q12⟩ := h
  refine ap_rc9 (ap_c5 ?_ ?_ ?_ ?_ ?_) (ap_c5 ?_ ?_ ?_ ?_ ?_) (ap_c5 ?_ ?_ ?_ ?_ ?_) (ap_c5 ?_ ?_ ?_ ?_ ?_) (ap_c5 ?_ ?_ ?_ ?_ ?_) (ap_c5 ?_ ?_ ?_ ?_ ?_) (ap_c5 ?_ ?_ ?_ ?_ ?_) (ap_c5 ?_ ?_ ?_ ?_ ?_) (ap_c5 ?_ ?_ ?_ ?_ ?_)
  · exact show ((-1000000 : Int) ≤ 0 ∧ 0 ≤ (1000000 : Int)) ∧ ((1 : Int) * ((-p) * 1 - p * (-1)) = 1 * 0) from ⟨⟨by decide, by decide⟩, by grind⟩
  · exact show ((-1000000 : Int) ≤ (-p) ∧ (-p) ≤ (1000000 : Int)) ∧ ((-p : Int) = -((1 : Int) * p)) from ⟨⟨by omega, by omega⟩, by grind⟩
  · exact show ((-1000000 : Int) ≤ 0 ∧ 0 ≤ (1000000 : Int)) ∧ ((1 : Int) * (0 * 1 - p * 0) = 1 * 0) from ⟨⟨by decide, by decide⟩, by grind⟩
  · exact show ((-1000000 : Int) ≤ 0 ∧ 0 ≤ (1000000 : Int)) ∧ ((0 : Int) = (1 : Int) * 0) from ⟨⟨by decide, by decide⟩, by grind⟩
  · exact show ((-1000000 : Int) ≤ (R0 - R2 * p) ∧ (R0 - R2 * p) ≤ (1000000 : Int)) ∧ ((1 : Int) * ((R0 - R1 * p) * 1 - p * (-R1 + R2)) = 1 * (R0 - R2 * p)) from ⟨⟨by omega, by omega⟩, by grind⟩
  · exact show ((-1000000 : Int) ≤ 0 ∧ 0 ≤ (1000000 : Int)) ∧ ((1 : Int) * (1 * 1 - (-1) * (-1)) = 1 * 0) from ⟨⟨by decide, by decide⟩, by decide⟩
  · exact show ((-1000000 : Int) ≤ 1 ∧ 1 ≤ (1000000 : Int)) ∧ ((1 : Int) = -((1 : Int) * (-1))) from ⟨⟨by decide, by decide⟩, by decide⟩
  · exact show ((-1000000 : Int) ≤ 0 ∧ 0 ≤ (1000000 : Int)) ∧ ((1 : Int) * (0 * 1 - (-1) * 0) = 1 * 0) from ⟨⟨by decide, by decide⟩, by decide⟩
  · exact show ((-1000000 : Int) ≤ 0 ∧ 0 ≤ (1000000 : Int)) ∧ ((0 : Int) = (1 : Int) * 0) from ⟨⟨by decide, by decide⟩, by decide⟩
  · exact show ((-1000000 : Int) ≤ R2 ∧ R2 ≤ (1000000 : Int)) ∧ ((1 : Int) * (R1 * 1 - (-1) * (-R1 + R2)) = 1 * R2) from ⟨⟨by omega, by omega⟩, by grind⟩
  · exact show ((-1000000 : Int) ≤ (-1) ∧ (-1) ≤ (1000000 : Int)) ∧ ((-1 : Int) = (1 : Int) * (-1)) from ⟨⟨by decide, by decide⟩, by decide⟩
  · exact show ((-1000000 : Int) ≤ 1 ∧ 1 ≤ (1000000 : Int)) ∧ ((1 : Int) = (1 : Int) * 1) from ⟨⟨by decide, by decide⟩, by decide⟩
  · exact show ((-1000000 : Int) ≤ 0 ∧ 0 ≤ (1000000 : Int)) ∧ ((0 : Int) = (1 : Int) * 0) from ⟨⟨by decide, by decide⟩, by decide⟩
  · exact show ((-1000000 : Int) ≤ 0 ∧ 0 ≤ (1000000 : Int)) ∧ ((0 : Int) = (1 : Int) * 0) from ⟨⟨by decide, by decide⟩, by decide⟩
  · exact show ((-1000000 : Int) ≤ (-R1 + R2) ∧ (-R1 + R2) ≤ (1000000 : Int)) ∧ ((-R1 + R2 : Int) = (1 : Int) * (-R1 + R2)) from ⟨⟨by omega, by omega⟩, by grind⟩
  · exact show ((-1000000 : Int) ≤ 1 ∧ 1 ≤ (1000000 : Int)) ∧ ((1 : Int) * (0 * 1 - 1 * (-1)) = 1 * 1) from ⟨⟨by decide, by decide⟩, by decide⟩
  · exact show ((-1000000 : Int) ≤ (-1) ∧ (-1) ≤ (1000000 : Int)) ∧ ((-1 : Int) = -((1 : Int) * 1)) from ⟨⟨by decide, by decide⟩, by decide⟩
  · exact show ((-1000000 : Int) ≤ 0 ∧ 0 ≤ (1000000 : Int)) ∧ ((1 : Int) * (0 * 1 - 1 * 0) = 1 * 0) from ⟨⟨by decide, by decide⟩, by decide⟩
  · exact show ((-1000000 : Int) ≤ 0 ∧ 0 ≤ (1000000 : Int)) ∧ ((0 : Int) = (1 : Int) * 0) from ⟨⟨by decide, by decide⟩, by decide⟩
  · exact show ((-1000000 : Int) ≤ (R1 - R2 + R3) ∧ (R1 - R2 + R3) ≤ (1000000 : Int)) ∧ ((1 : Int) * (R3 * 1 - 1 * (-R1 + R2)) = 1 * (R1 - R2 + R3)) from ⟨⟨by omega, by omega⟩, by grind⟩
  · exact show ((-1000000 : Int) ≤ 0 ∧ 0 ≤ (1000000 : Int)) ∧ ((1 : Int) * (0 * 1 - 0 * (-1)) = 1 * 0) from ⟨⟨by decide, by decide⟩, by decide⟩
  · exact show ((-1000000 : Int) ≤ 0 ∧ 0 ≤ (1000000 : Int)) ∧ ((0 : Int) = -((1 : Int) * 0)) from ⟨⟨by decide, by decide⟩, by decide⟩
  · exact show ((-1000000 : Int) ≤ 1 ∧ 1 ≤ (1000000 : Int)) ∧ ((1 : Int) * (1 * 1 - 0 * 0) = 1 * 1) from ⟨⟨by decide, by decide⟩, by decide⟩
  · exact show ((-1000000 : Int) ≤ 0 ∧ 0 ≤ (1000000 : Int)) ∧ ((0 : Int) = (1 : Int) * 0) from ⟨⟨by decide, by decide⟩, by decide⟩
  · exact show ((-1000000 : Int) ≤ R4 ∧ R4 ≤ (1000000 : Int)) ∧ ((1 : Int) * (R4 * 1 - 0 * (-R1 + R2)) = 1 * R4) from ⟨⟨by omega, by omega⟩, by grind⟩
  · exact show ((-1000000 : Int) ≤ 1 ∧ 1 ≤ (1000000 : Int)) ∧ ((1 : Int) * (c * 1 - (1 - c) * (-1)) = 1 * 1) from ⟨⟨by decide, by decide⟩, by grind⟩
  · exact show ((-1000000 : Int) ≤ (-1 + c) ∧ (-1 + c) ≤ (1000000 : Int)) ∧ ((-1 + c : Int) = -((1 : Int) * (1 - c))) from ⟨⟨by omega, by omega⟩, by grind⟩
  · exact show ((-1000000 : Int) ≤ 0 ∧ 0 ≤ (1000000 : Int)) ∧ ((1 : Int) * (0 * 1 - (1 - c) * 0) = 1 * 0) from ⟨⟨by decide, by decide⟩, by grind⟩
  · exact show ((-1000000 : Int) ≤ 0 ∧ 0 ≤ (1000000 : Int)) ∧ ((0 : Int) = (1 : Int) * 0) from ⟨⟨by decide, by decide⟩, by grind⟩
  · exact show ((-1000000 : Int) ≤ (R1 - R2 + W0 + R2 * c) ∧ (R1 - R2 + W0 + R2 * c) ≤ (1000000 : Int)) ∧ ((1 : Int) * ((W0 + R1 * c) * 1 - (1 - c) * (-R1 + R2)) = 1 * (R1 - R2 + W0 + R2 * c)) from ⟨⟨by omega, by omega⟩, by grind⟩
  · exact show ((-1000000 : Int) ≤ 0 ∧ 0 ≤ (1000000 : Int)) ∧ ((1 : Int) * ((-1) * 1 - 1 * (-1)) = 1 * 0) from ⟨⟨by decide, by decide⟩, by decide⟩
  · exact show ((-1000000 : Int) ≤ (-1) ∧ (-1) ≤ (1000000 : Int)) ∧ ((-1 : Int) = -((1 : Int) * 1)) from ⟨⟨by decide, by decide⟩, by decide⟩
  · exact show ((-1000000 : Int) ≤ 0 ∧ 0 ≤ (1000000 : Int)) ∧ ((1 : Int) * (0 * 1 - 1 * 0) = 1 * 0) from ⟨⟨by decide, by decide⟩, by decide⟩
  · exact show ((-1000000 : Int) ≤ 0 ∧ 0 ≤ (1000000 : Int)) ∧ ((0 : Int) = (1 : Int) * 0) from ⟨⟨by decide, by decide⟩, by decide⟩
  · exact show ((-1000000 : Int) ≤ (-R2 + W1) ∧ (-R2 + W1) ≤ (1000000 : Int)) ∧ ((1 : Int) * ((-R1 + W1) * 1 - 1 * (-R1 + R2)) = 1 * (-R2 + W1)) from ⟨⟨by omega, by omega⟩, by grind⟩
  · exact show ((-1000000 : Int) ≤ 1 ∧ 1 ≤ (1000000 : Int)) ∧ ((1 : Int) * (0 * 1 - 1 * (-1)) = 1 * 1) from ⟨⟨by decide, by decide⟩, by decide⟩
  · exact show ((-1000000 : Int) ≤ (-1) ∧ (-1) ≤ (1000000 : Int)) ∧ ((-1 : Int) = -((1 : Int) * 1)) from ⟨⟨by decide, by decide⟩, by decide⟩
  · exact show ((-1000000 : Int) ≤ 0 ∧ 0 ≤ (1000000 : Int)) ∧ ((1 : Int) * (0 * 1 - 1 * 0) = 1 * 0) from ⟨⟨by decide, by decide⟩, by decide⟩
  · exact show ((-1000000 : Int) ≤ 0 ∧ 0 ≤ (1000000 : Int)) ∧ ((0 : Int) = (1 : Int) * 0) from ⟨⟨by decide, by decide⟩, by decide⟩
  · exact show ((-1000000 : Int) ≤ (R1 - R2 + W2) ∧ (R1 - R2 + W2) ≤ (1000000 : Int)) ∧ ((1 : Int) * (W2 * 1 - 1 * (-R1 + R2)) = 1 * (R1 - R2 + W2)) from ⟨⟨by omega, by omega⟩, by grind⟩
  · exact show ((-1000000 : Int) ≤ 0 ∧ 0 ≤ (1000000 : Int)) ∧ ((1 : Int) * (0 * 1 - 0 * (-1)) = 1 * 0) from ⟨⟨by decide, by decide⟩, by decide⟩
  · exact show ((-1000000 : Int) ≤ 0 ∧ 0 ≤ (1000000 : Int)) ∧ ((0 : Int) = -((1 : Int) * 0)) from ⟨⟨by decide, by decide⟩, by decide⟩
  · exact show ((-1000000 : Int) ≤ 1 ∧ 1 ≤ (1000000 : Int)) ∧ ((1 : Int) * (1 * 1 - 0 * 0) = 1 * 1) from ⟨⟨by decide, by decide⟩, by decide⟩
  · exact show ((-1000000 : Int) ≤ 0 ∧ 0 ≤ (1000000 : Int)) ∧ ((0 : Int) = (1 : Int) * 0) from ⟨⟨by decide, by decide⟩, by decide⟩
  · exact show ((-1000000 : Int) ≤ W3 ∧ W3 ≤ (1000000 : Int)) ∧ ((1 : Int) * (W3 * 1 - 0 * (-R1 + R2)) = 1 * W3) from ⟨⟨by omega, by omega⟩, by grind⟩
def ap_MA0 (p c R0 R1 R2 R3 R4 W0 W1 W2 W3 : Int) : List (List Int) := [[1, 0, 0, 0, R0], [-1, -p, 0, 0, -R0 + R1 * p], [-1, 0, 0, 0, -R0 + R2 * p], [0, p, 0, 0, R3 * p], [0, 0, p, 0, R4 * p], [c, p, 0, 0, R0 * c + W0 * p], [-1, 0, 0, 0, -R0 + W1 * p], [0, p, 0, 0, W2 * p], [0, 0, p, 0, W3 * p]]
theorem ap_cA0 {p c R0 R1 R2 R3 R4 W0 W1 W2 W3 : Int} (h : ap_bd p c R0 R1 R2 R3 R4 W0 W1 W2 W3) : ∀ r c', r < 9 → c' < 5 → ap_s (ap_at (ap_MA0 p c R0 R1 R2 R3 R4 W0 W1 W2 W3) r c') ∧ ap_cert (ap_MA p c R0 R1 R2 R3 R4 W0 W1 W2 W3) (ap_MA0 p c R0 R1 R2 R3 R4 W0 W1 W2 W3) 1 1 0 0 3 r c' := by
  obtain ⟨hp, hc, hR0, hR1, hR2, hR3, hR4, hW0, hW1, hW2, hW3, q1, q2, q3, q4, q5, q6, q7, q8, q9, q10, q11, q12⟩ := h
  refine ap_rc9 (ap_c5 ?_ ?_ ?_ ?_ ?_) (ap_c5 ?_ ?_ ?_ ?_ ?_) (ap_c5 ?_ ?_ ?_ ?_ ?_) (ap_c5 ?_ ?_ ?_ ?_ ?_) (ap_c5 ?_ ?_ ?_ ?_ ?_) (ap_c5 ?_ ?_ ?_ ?_ ?_) (ap_c5 ?_ ?_ ?_ ?_ ?_) (ap_c5 ?_ ?_ ?_ ?_ ?_) (ap_c5 ?_ ?_ ?_ ?_ ?_)
  · exact show ((-1000000 : Int) ≤ 1 ∧ 1 ≤ (1000000 : Int)) ∧ ((1 : Int) = (1 : Int) * 1) from ⟨⟨by decide, by decide⟩, by grind⟩
  · exact show ((-1000000 : Int) ≤ 0 ∧ 0 ≤ (1000000 : Int)) ∧ ((0 : Int) = (1 : Int) * 0) from ⟨⟨by decide, by decide⟩, by grind⟩
  · exact show ((-1000000 : Int) ≤ 0 ∧ 0 ≤ (1000000 : Int)) ∧ ((0 : Int) = (1 : Int) * 0) from ⟨⟨by decide, by decide⟩, by grind⟩
  · exact show ((-1000000 : Int) ≤ 0 ∧ 0 ≤ (1000000 : Int)) ∧ ((0 : Int) = (1 : Int) * 0) from ⟨⟨by decide, by decide⟩, by grind⟩
  · exact show ((-1000000 : Int) ≤ R0 ∧ R0 ≤ (1000000 : Int)) ∧ ((R0 : Int) = (1 : Int) * R0) from ⟨⟨by omega, by omega⟩, by grind⟩
  · exact show ((-1000000 : Int) ≤ (-1) ∧ (-1) ≤ (1000000 : Int)) ∧ ((-1 : Int) = -((1 : Int) * 1)) from ⟨⟨by decide, by decide⟩, by grind⟩
  · exact show ((-1000000 : Int) ≤ (-p) ∧ (-p) ≤ (1000000 : Int)) ∧ ((1 : Int) * ((-1) * p - 1 * 0) = 1 * (-p)) from ⟨⟨by omega, by omega⟩, by grind⟩
  · exact show ((-1000000 : Int) ≤ 0 ∧ 0 ≤ (1000000 : Int)) ∧ ((1 : Int) * (0 * p - 1 * 0) = 1 * 0) from ⟨⟨by decide, by decide⟩, by grind⟩
  · exact show ((-1000000 : Int) ≤ 0 ∧ 0 ≤ (1000000 : Int)) ∧ ((0 : Int) = (1 : Int) * 0) from ⟨⟨by decide, by decide⟩, by grind⟩
  · exact show ((-1000000 : Int) ≤ (-R0 + R1 * p) ∧ (-R0 + R1 * p) ≤ (1000000 : Int)) ∧ ((1 : Int) * (R1 * p - 1 * R0) = 1 * (-R0 + R1 * p)) from ⟨⟨by omega, by omega⟩, by grind⟩
  · exact show ((-1000000 : Int) ≤ (-1) ∧ (-1) ≤ (1000000 : Int)) ∧ ((-1 : Int) = -((1 : Int) * 1)) from ⟨⟨by decide, by decide⟩, by grind⟩
  · exact show ((-1000000 : Int) ≤ 0 ∧ 0 ≤ (1000000 : Int)) ∧ ((1 : Int) * (0 * p - 1 * 0) = 1 * 0) from ⟨⟨by decide, by decide⟩, by grind⟩
  · exact show ((-1000000 : Int) ≤ 0 ∧ 0 ≤ (1000000 : Int)) ∧ ((1 : Int) * (0 * p - 1 * 0) = 1 * 0) from ⟨⟨by decide, by decide⟩, by grind⟩
  · exact show ((-1000000 : Int) ≤ 0 ∧ 0 ≤ (1000000 : Int)) ∧ ((0 : Int) = (1 : Int) * 0) from ⟨⟨by decide, by decide⟩, by grind⟩
  · exact show ((-1000000 : Int) ≤ (-R0 + R2 * p) ∧ (-R0 + R2 * p) ≤ (1000000 : Int)) ∧ ((1 : Int) * (R2 * p - 1 * R0) = 1 * (-R0 + R2 * p)) from ⟨⟨by omega, by omega⟩, by grind⟩
  · exact show ((-1000000 : Int) ≤ 0 ∧ 0 ≤ (1000000 : Int)) ∧ ((0 : Int) = -((1 : Int) * 0)) from ⟨⟨by decide, by decide⟩, by grind⟩
  · exact show ((-1000000 : Int) ≤ p ∧ p ≤ (1000000 : Int)) ∧ ((1 : Int) * (1 * p - 0 * 0) = 1 * p) from ⟨⟨by omega, by omega⟩, by grind⟩
  · exact show ((-1000000 : Int) ≤ 0 ∧ 0 ≤ (1000000 : Int)) ∧ ((1 : Int) * (0 * p - 0 * 0) = 1 * 0) from ⟨⟨by decide, by decide⟩, by grind⟩
  · exact show ((-1000000 : Int) ≤ 0 ∧ 0 ≤ (1000000 : Int)) ∧ ((0 : Int) = (1 : Int) * 0) from ⟨⟨by decide, by decide⟩, by grind⟩
  · exact show ((-1000000 : Int) ≤ (R3 * p) ∧ (R3 * p) ≤ (1000000 : Int)) ∧ ((1 : Int) * (R3 * p - 0 * R0) = 1 * (R3 * p)) from ⟨⟨by omega, by omega⟩, by grind⟩
  · exact show ((-1000000 : Int) ≤ 0 ∧ 0 ≤ (1000000 : Int)) ∧ ((0 : Int) = -((1 : Int) * 0)) from ⟨⟨by decide, by decide⟩, by grind⟩
  · exact show ((-1000000 : Int) ≤ 0 ∧ 0 ≤ (1000000 : Int)) ∧ ((1 : Int) * (0 * p - 0 * 0) = 1 * 0) from ⟨⟨by decide, by decide⟩, by grind⟩
  · exact show ((-1000000 : Int) ≤ p ∧ p ≤ (1000000 : Int)) ∧ ((1 : Int) * (1 * p - 0 * 0) = 1 * p) from ⟨⟨by omega, by omega⟩, by grind⟩
  · exact show ((-1000000 : Int) ≤ 0 ∧ 0 ≤ (1000000 : Int)) ∧ ((0 : Int) = (1 : Int) * 0) from ⟨⟨by decide, by decide⟩, by grind⟩
  · exact show ((-1000000 : Int) ≤ (R4 * p) ∧ (R4 * p) ≤ (1000000 : Int)) ∧ ((1 : Int) * (R4 * p - 0 * R0) = 1 * (R4 * p)) from ⟨⟨by omega, by omega⟩, by grind⟩
  · exact show ((-1000000 : Int) ≤ c ∧ c ≤ (1000000 : Int)) ∧ ((c : Int) = -((1 : Int) * (-c))) from ⟨⟨by omega, by omega⟩, by grind⟩
  · exact show ((-1000000 : Int) ≤ p ∧ p ≤ (1000000 : Int)) ∧ ((1 : Int) * (1 * p - (-c) * 0) = 1 * p) from ⟨⟨by omega, by omega⟩, by grind⟩
  · exact show ((-1000000 : Int) ≤ 0 ∧ 0 ≤ (1000000 : Int)) ∧ ((1 : Int) * (0 * p - (-c) * 0) = 1 * 0) from ⟨⟨by decide, by decide⟩, by grind⟩
  · exact show ((-1000000 : Int) ≤ 0 ∧ 0 ≤ (1000000 : Int)) ∧ ((0 : Int) = (1 : Int) * 0) from ⟨⟨by decide, by decide⟩, by grind⟩
  · exact show ((-1000000 : Int) ≤ (R0 * c + W0 * p) ∧ (R0 * c + W0 * p) ≤ (1000000 : Int)) ∧ ((1 : Int) * (W0 * p - (-c) * R0) = 1 * (R0 * c + W0 * p)) from ⟨⟨by omega, by omega⟩, by grind⟩
  · exact show ((-1000000 : Int) ≤ (-1) ∧ (-1) ≤ (1000000 : Int)) ∧ ((-1 : Int) = -((1 : Int) * 1)) from ⟨⟨by decide, by decide⟩, by grind⟩
  · exact show ((-1000000 : Int) ≤ 0 ∧ 0 ≤ (1000000 : Int)) ∧ ((1 : Int) * (0 * p - 1 * 0) = 1 * 0) from ⟨⟨by decide, by decide⟩, by grind⟩
  · exact show ((-1000000 : Int) ≤ 0 ∧ 0 ≤ (1000000 : Int)) ∧ ((1 : Int) * (0 * p - 1 * 0) = 1 * 0) from ⟨⟨by decide, by decide⟩, by grind⟩
  · exact show ((-1000000 : Int) ≤ 0 ∧ 0 ≤ (1000000 : Int)) ∧ ((0 : Int) = (1 : Int) * 0) from ⟨⟨by decide, by decide⟩, by grind⟩
  · exact show ((-1000000 : Int) ≤ (-R0 + W1 * p) ∧ (-R0 + W1 * p) ≤ (1000000 : Int)) ∧ ((1 : Int) * (W1 * p - 1 * R0) = 1 * (-R0 + W1 * p)) from ⟨⟨by omega, by omega⟩, by grind⟩
  · exact show ((-1000000 : Int) ≤ 0 ∧ 0 ≤ (1000000 : Int)) ∧ ((0 : Int) = -((1 : Int) * 0)) from ⟨⟨by decide, by decide⟩, by grind⟩
  · exact show ((-1000000 : Int) ≤ p ∧ p ≤ (1000000 : Int)) ∧ ((1 : Int) * (1 * p - 0 * 0) = 1 * p) from ⟨⟨by omega, by omega⟩, by grind⟩
  · exact show ((-1000000 : Int) ≤ 0 ∧ 0 ≤ (1000000 : Int)) ∧ ((1 : Int) * (0 * p - 0 * 0) = 1 * 0) from ⟨⟨by decide, by decide⟩, by grind⟩
  · exact show ((-1000000 : Int) ≤ 0 ∧ 0 ≤ (1000000 : Int)) ∧ ((0 : Int) = (1 : Int) * 0) from ⟨⟨by decide, by decide⟩, by grind⟩
  · exact show ((-1000000 : Int) ≤ (W2 * p) ∧ (W2 * p) ≤ (1000000 : Int)) ∧ ((1 : Int) * (W2 * p - 0 * R0) = 1 * (W2 * p)) from ⟨⟨by omega, by omega⟩, by grind⟩
  · exact show ((-1000000 : Int) ≤ 0 ∧ 0 ≤ (1000000 : Int)) ∧ ((0 : Int) = -((1 : Int) * 0)) from ⟨⟨by decide, by decide⟩, by grind⟩
  · exact show ((-1000000 : Int) ≤ 0 ∧ 0 ≤ (1000000 : Int)) ∧ ((1 : Int) * (0 * p - 0 * 0) = 1 * 0) from ⟨⟨by decide, by decide⟩, by grind⟩
  · exact show ((-1000000 : Int) ≤ p ∧ p ≤ (1000000 : Int)) ∧ ((1 : Int) * (1 * p - 0 * 0) = 1 * p) from ⟨⟨by omega, by omega⟩, by grind⟩
  · exact show ((-1000000 : Int) ≤ 0 ∧ 0 ≤ (1000000 : Int)) ∧ ((0 : Int) = (1 : Int) * 0) from ⟨⟨by decide, by decide⟩, by grind⟩
  · exact show ((-1000000 : Int) ≤ (W3 * p) ∧ (W3 * p) ≤ (1000000 : Int)) ∧ ((1 : Int) * (W3 * p - 0 * R0) = 1 * (W3 * p)) from ⟨⟨by omega, by omega⟩, by grind⟩
def ap_MB (p c R0 R1 R2 R3 R4 W0 W1 W2 W3 : Int) : List (List Int) := [[p, 0, 0, -1, R0], [1, -1, 0, -1, R1], [1, 0, 0, -1, R2], [0, 1, 0, -1, R3], [0, 0, 1, -1, R4], [-c, 1, 0, 0, W0], [1, 0, 0, 0, W1], [0, 1, 0, 0, W2], [0, 0, 1, 0, W3], [0, 0, 0, 1, 0]]
def ap_MB13 (p c R0 R1 R2 R3 R4 W0 W1 W2 W3 : Int) : List (List Int) := [[-1 + p, 1, 0, -1, R0 - R1], [-1, 1, 0, -1, -R1], [0, 1, 0, -1, -R1 + R2], [-1, 2, 0, -1, -R1 + R3], [-1, 1, 1, -1, -R1 + R4], [-c, 1, 0, 0, W0], [1, 0, 0, 0, W1], [0, 1, 0, 0, W2], [0, 0, 1, 0, W3], [1, -1, 0, 1, R1]]
theorem ap_cB13 {p c R0 R1 R2 R3 R4 W0 W1 W2 W3 : Int} (h : ap_bd p c R0 R1 R2 R3 R4 W0 W1 W2 W3) : ∀ r c', r < 10 → c' < 5 → ap_s (ap_at (ap_MB13 p c R0 R1 R2 R3 R4 W0 W1 W2 W3) r c') ∧ ap_cert (ap_MB p c R0 R1 R2 R3 R4 W0 W1 W2 W3) (ap_MB13 p c R0 R1 R2 R3 R4 W0 W1 W2 W3) 1 (-1) 1 3 4 r c' := by
  obtain ⟨hp, hc, hR0, hR1, hR2, hR3, hR4, hW0, hW1, hW2, hW3, q1, q2, q3, q4, q5, q6, q7, q8, q9, q10, q11, q12⟩ := h
  refine ap_rc10 (ap_c5 ?_ ?_ ?_ ?_ ?_) (ap_c5 ?_ ?_ ?_ ?_ ?_) (ap_c5 ?_ ?_ ?_ ?_ ?_) (ap_c5 ?_ ?_ ?_ ?_ ?_) (ap_c5 ?_ ?_ ?_ ?_ ?_) (ap_c5 ?_ ?_ ?_ ?_ ?_) (ap_c5 ?_ ?_ ?_ ?_ ?_) (ap_c5 ?_ ?_ ?_ ?_ ?_) (ap_c5 ?_ ?_ ?_ ?_ ?_) (ap_c5 ?_ ?_ ?_ ?_ ?_)
  · exact show ((-1000000 : Int) ≤ (-1 + p) ∧ (-1 + p) ≤ (1000000 : Int)) ∧ ((-1 : Int) * (p * (-1) - (-1) * 1) = 1 * (-1 + p)) from ⟨⟨by omega, by omega⟩, by grind⟩
  · exact show ((-1000000 : Int) ≤ 1 ∧ 1 ≤ (1000000 : Int)) ∧ ((-1 : Int) * (0 * (-1) - (-1) * (-1)) = 1 * 1) from ⟨⟨by decide, by decide⟩, by decide⟩
  · exact show ((-1000000 : Int) ≤ 0 ∧ 0 ≤ (1000000 : Int)) ∧ ((-1 : Int) * (0 * (-1) - (-1) * 0) = 1 * 0) from ⟨⟨by decide, by decide⟩, by decide⟩
  · exact show ((-1000000 : Int) ≤ (-1) ∧ (-1) ≤ (1000000 : Int)) ∧ ((-1 : Int) = -((-1 : Int) * (-1))) from ⟨⟨by decide, by decide⟩, by decide⟩
  · exact show ((-1000000 : Int) ≤ (R0 - R1) ∧ (R0 - R1) ≤ (1000000 : Int)) ∧ ((-1 : Int) * (R0 * (-1) - (-1) * R1) = 1 * (R0 - R1)) from ⟨⟨by omega, by omega⟩, by grind⟩
  · exact show ((-1000000 : Int) ≤ (-1) ∧ (-1) ≤ (1000000 : Int)) ∧ ((-1 : Int) = (-1 : Int) * 1) from ⟨⟨by decide, by decide⟩, by decide⟩
  · exact show ((-1000000 : Int) ≤ 1 ∧ 1 ≤ (1000000 : Int)) ∧ ((1 : Int) = (-1 : Int) * (-1)) from ⟨⟨by decide, by decide⟩, by decide⟩
  · exact show ((-1000000 : Int) ≤ 0 ∧ 0 ≤ (1000000 : Int)) ∧ ((0 : Int) = (-1 : Int) * 0) from ⟨⟨by decide, by decide⟩, by decide⟩
  · exact show ((-1000000 : Int) ≤ (-1) ∧ (-1) ≤ (1000000 : Int)) ∧ ((-1 : Int) = (-1 : Int) * 1) from ⟨⟨by decide, by decide⟩, by decide⟩
  · exact show ((-1000000 : Int) ≤ (-R1) ∧ (-R1) ≤ (1000000 : Int)) ∧ ((-R1 : Int) = (-1 : Int) * R1) from ⟨⟨by omega, by omega⟩, by grind⟩
  · exact show ((-1000000 : Int) ≤ 0 ∧ 0 ≤ (1000000 : Int)) ∧ ((-1 : Int) * (1 * (-1) - (-1) * 1) = 1 * 0) from ⟨⟨by decide, by decide⟩, by decide⟩
  · exact show ((-1000000 : Int) ≤ 1 ∧ 1 ≤ (1000000 : Int)) ∧ ((-1 : Int) * (0 * (-1) - (-1) * (-1)) = 1 * 1) from ⟨⟨by decide, by decide⟩, by decide⟩
  · exact show ((-1000000 : Int) ≤ 0 ∧ 0 ≤ (1000000 : Int)) ∧ ((-1 : Int) * (0 * (-1) - (-1) * 0) = 1 * 0) from ⟨⟨by decide, by decide⟩, by decide⟩
  · exact show ((-1000000 : Int) ≤ (-1) ∧ (-1) ≤ (1000000 : Int)) ∧ ((-1 : Int) = -((-1 : Int) * (-1))) from ⟨⟨by decide, by decide⟩, by decide⟩
  · exact show ((-1000000 : Int) ≤ (-R1 + R2) ∧ (-R1 + R2) ≤ (1000000 : Int)) ∧ ((-1 : Int) * (R2 * (-1) - (-1) * R1) = 1 * (-R1 + R2)) from ⟨⟨by omega, by omega⟩, by grind⟩
  · exact show ((-1000000 : Int) ≤ (-1) ∧ (-1) ≤ (1000000 : Int)) ∧ ((-1 : Int) * (0 * (-1) - (-1) * 1) = 1 * (-1)) from ⟨⟨by decide, by decide⟩, by decide⟩
  · exact show ((-1000000 : Int) ≤ 2 ∧ 2 ≤ (1000000 : Int)) ∧ ((-1 : Int) * (1 * (-1) - (-1) * (-1)) = 1 * 2) from ⟨⟨by decide, by decide⟩, by decide⟩
  · exact show ((-1000000 : Int) ≤ 0 ∧ 0 ≤ (1000000 : Int)) ∧ ((-1 : Int) * (0 * (-1) - (-1) * 0) = 1 * 0) from ⟨⟨by decide, by decide⟩, by decide⟩
  · exact show ((-1000000 : Int) ≤ (-1) ∧ (-1) ≤ (1000000 : Int)) ∧ ((-1 : Int) = -((-1 : Int) * (-1))) from ⟨⟨by decide, by decide⟩, by decide⟩
  · exact show ((-1000000 : Int) ≤ (-R1 + R3) ∧ (-R1 + R3) ≤ (1000000 : Int)) ∧ ((-1 : Int) * (R3 * (-1) - (-1) * R1) = 1 * (-R1 + R3)) from ⟨⟨by omega, by omega⟩, by grind⟩
  · exact show ((-1000000 : Int) ≤ (-1) ∧ (-1) ≤ (1000000 : Int)) ∧ ((-1 : Int) * (0 * (-1) - (-1) * 1) = 1 * (-1)) from ⟨⟨by decide, by decide⟩, by decide⟩
  · exact show ((-1000000 : Int) ≤ 1 ∧ 1 ≤ (1000000 : Int)) ∧ ((-1 : Int) * (0 * (-1) - (-1) * (-1)) = 1 * 1) from ⟨⟨by decide, by decide⟩, by decide⟩
  · exact show ((-1000000 : Int) ≤ 1 ∧ 1 ≤ (1000000 : Int)) ∧ ((-1 : Int) * (1 * (-1) - (-1) * 0) = 1 * 1) from ⟨⟨by decide, by decide⟩, by decide⟩
  · exact show ((-1000000 : Int) ≤ (-1) ∧ (-1) ≤ (1000000 : Int)) ∧ ((-1 : Int) = -((-1 : Int) * (-1))) from ⟨⟨by decide, by decide⟩, by decide⟩
  · exact show ((-1000000 : Int) ≤ (-R1 + R4) ∧ (-R1 + R4) ≤ (1000000 : Int)) ∧ ((-1 : Int) * (R4 * (-1) - (-1) * R1) = 1 * (-R1 + R4)) from ⟨⟨by omega, by omega⟩, by grind⟩
  · exact show ((-1000000 : Int) ≤ (-c) ∧ (-c) ≤ (1000000 : Int)) ∧ ((-1 : Int) * ((-c) * (-1) - 0 * 1) = 1 * (-c)) from ⟨⟨by omega, by omega⟩, by grind⟩
  · exact show ((-1000000 : Int) ≤ 1 ∧ 1 ≤ (1000000 : Int)) ∧ ((-1 : Int) * (1 * (-1) - 0 * (-1)) = 1 * 1) from ⟨⟨by decide, by decide⟩, by decide⟩
  · exact show ((-1000000 : Int) ≤ 0 ∧ 0 ≤ (1000000 : Int)) ∧ ((-1 : Int) * (0 * (-1) - 0 * 0) = 1 * 0) from ⟨⟨by decide, by decide⟩, by decide⟩
  · exact show ((-1000000 : Int) ≤ 0 ∧ 0 ≤ (1000000 : Int)) ∧ ((0 : Int) = -((-1 : Int) * 0)) from ⟨⟨by decide, by decide⟩, by decide⟩
  · exact show ((-1000000 : Int) ≤ W0 ∧ W0 ≤ (1000000 : Int)) ∧ ((-1 : Int) * (W0 * (-1) - 0 * R1) = 1 * W0) from ⟨⟨by omega, by omega⟩, by grind⟩
  · exact show ((-1000000 : Int) ≤ 1 ∧ 1 ≤ (1000000 : Int)) ∧ ((-1 : Int) * (1 * (-1) - 0 * 1) = 1 * 1) from ⟨⟨by decide, by decide⟩, by decide⟩
  · exact show ((-1000000 : Int) ≤ 0 ∧ 0 ≤ (1000000 : Int)) ∧ ((-1 : Int) * (0 * (-1) - 0 * (-1)) = 1 * 0) from ⟨⟨by decide, by decide⟩, by decide⟩
  · exact show ((-1000000 : Int) ≤ 0 ∧ 0 ≤ (1000000 : Int)) ∧ ((-1 : Int) * (0 * (-1) - 0 * 0) = 1 * 0) from ⟨⟨by decide, by decide⟩, by decide⟩
  · exact show ((-1000000 : Int) ≤ 0 ∧ 0 ≤ (1000000 : Int)) ∧ ((0 : Int) = -((-1 : Int) * 0)) from ⟨⟨by decide, by decide⟩, by decide⟩
  · exact show ((-1000000 : Int) ≤ W1 ∧ W1 ≤ (1000000 : Int)) ∧ ((-1 : Int) * (W1 * (-1) - 0 * R1) = 1 * W1) from ⟨⟨by omega, by omega⟩, by grind⟩
  · exact show ((-1000000 : Int) ≤ 0 ∧ 0 ≤ (1000000 : Int)) ∧ ((-1 : Int) * (0 * (-1) - 0 * 1) = 1 * 0) from ⟨⟨by decide, by decide⟩, by decide⟩
  · exact show ((-1000000 : Int) ≤ 1 ∧ 1 ≤ (1000000 : Int)) ∧ ((-1 : Int) * (1 * (-1) - 0 * (-1)) = 1 * 1) from ⟨⟨by decide, by decide⟩, by decide⟩
  · exact show ((-1000000 : Int) ≤ 0 ∧ 0 ≤ (1000000 : Int)) ∧ ((-1 : Int) * (0 * (-1) - 0 * 0) = 1 * 0) from ⟨⟨by decide, by decide⟩, by decide⟩
  · exact show ((-1000000 : Int) ≤ 0 ∧ 0 ≤ (1000000 : Int)) ∧ ((0 : Int) = -((-1 : Int) * 0)) from ⟨⟨by decide, by decide⟩, by decide⟩
  · exact show ((-1000000 : Int) ≤ W2 ∧ W2 ≤ (1000000 : Int)) ∧ ((-1 : Int) * (W2 * (-1) - 0 * R1) = 1 * W2) from ⟨⟨by omega, by omega⟩, by grind⟩
  · exact show ((-1000000 : Int) ≤ 0 ∧ 0 ≤ (1000000 : Int)) ∧ ((-1 : Int) * (0 * (-1) - 0 * 1) = 1 * 0) from ⟨⟨by decide, by decide⟩, by decide⟩
  · exact show ((-1000000 : Int) ≤ 0 ∧ 0 ≤ (1000000 : Int)) ∧ ((-1 : Int) * (0 * (-1) - 0 * (-1)) = 1 * 0) from ⟨⟨by decide, by decide⟩, by decide⟩
  · exact show ((-1000000 : Int) ≤ 1 ∧ 1 ≤ (1000000 : Int)) ∧ ((-1 : Int) * (1 * (-1) - 0 * 0) = 1 * 1) from ⟨⟨by decide, by decide⟩, by decide⟩
  · exact show ((-1000000 : Int) ≤ 0 ∧ 0 ≤ (1000000 : Int)) ∧ ((0 : Int) = -((-1 : Int) * 0)) from ⟨⟨by decide, by decide⟩, by decide⟩
  · exact show ((-1000000 : Int) ≤ W3 ∧ W3 ≤ (1000000 : Int)) ∧ ((-1 : Int) * (W3 * (-1) - 0 * R1) = 1 * W3) from ⟨⟨by omega, by omega⟩, by grind⟩
  · exact show ((-1000000 : Int) ≤ 1 ∧ 1 ≤ (1000000 : Int)) ∧ ((-1 : Int) * (0 * (-1) - 1 * 1) = 1 * 1) from ⟨⟨by decide, by decide⟩, by decide⟩
  · exact show ((-1000000 : Int) ≤ (-1) ∧ (-1) ≤ (1000000 : Int)) ∧ ((-1 : Int) * (0 * (-1) - 1 * (-1)) = 1 * (-1)) from ⟨⟨by decide, by decide⟩, by decide⟩
  · exact show ((-1000000 : Int) ≤ 0 ∧ 0 ≤ (1000000 : Int)) ∧ ((-1 : Int) * (0 * (-1) - 1 * 0) = 1 * 0) from ⟨⟨by decide, by decide⟩, by decide⟩
  · exact show ((-1000000 : Int) ≤ 1 ∧ 1 ≤ (1000000 : Int)) ∧ ((1 : Int) = -((-1 : Int) * 1)) from ⟨⟨by decide, by decide⟩, by decide⟩
  · exact show ((-1000000 : Int) ≤ R1 ∧ R1 ≤ (1000000 : Int)) ∧ ((-1 : Int) * (0 * (-1) - 1 * R1) = 1 * R1) from ⟨⟨by omega, by omega⟩, by grind⟩
def ap_MB2 (p c R0 R1 R2 R3 R4 W0 W1 W2 W3 : Int) : List (List Int) := [[-1 + p, -1, 0, 0, R0 - R2], [-1, -1, 0, 0, -R2], [0, 1, 0, -1, -R1 + R2], [-1, -2, 0, 1, R1 - 2 * R2 + R3], [-1, -1, 1, 0, -R2 + R4], [-c, -1, 0, 1, R1 - R2 + W0], [1, 0, 0, 0, W1], [0, -1, 0, 1, R1 - R2 + W2], [0, 0, 1, 0, W3], [1, 1, 0, 0, R2]]
theorem ap_cB2 {p c R0 R1 R2 R3 R4 W0 W1 W2 W3 : Int} (h : ap_bd p c R0 R1 R2 R3 R4 W0 W1 W2 W3) : ∀ r c', r < 10 → c' < 5 → ap_s (ap_at (ap_MB2 p c R0 R1 R2 R3 R4 W0 W1 W2 W3) r c') ∧ ap_cert (ap_MB13 p c R0 R1 R2 R3 R4 W0 W1 W2 W3) (ap_MB2 p c R0 R1 R2 R3 R4 W0 W1 W2 W3) 1 1 2 1 4 r c' := by
  obtain ⟨hp, hc, hR0, hR1, hR2, hR3, hR4, hW0, hW1, hW2, hW3, q1, q2, q3, q4, q5, q6, q7, q8, q9, q10, q11, q12⟩ := h
  refine ap_rc10 (ap_c5 ?_ ?_ ?_ ?_ ?_) (ap_c5 ?_ ?_ ?_ ?_ ?_) (ap_c5 ?_ ?_ ?_ ?_ ?_) (ap_c5 ?_ ?_ ?_ ?_ ?_) (ap_c5 ?_ ?_ ?_ ?_ ?_) (ap_c5 ?_ ?_ ?_ ?_ ?_) (ap_c5 ?_ ?_ ?_ ?_ ?_) (ap_c5 ?_ ?_ ?_ ?_ ?_) (ap_c5 ?_ ?_ ?_ ?_ ?_) (ap_c5 ?_ ?_ ?_ ?_ ?_)
  · exact show ((-1000000 : Int) ≤ (-1 + p) ∧ (-1 + p) ≤ (1000000 : Int)) ∧ ((1 : Int) * ((-1 + p) * 1 - 1 * 0) = 1 * (-1 + p)) from ⟨⟨by omega, by omega⟩, by grind⟩
  · exact show ((-1000000 : Int) ≤ (-1) ∧ (-1) ≤ (1000000 : Int)) ∧ ((-1 : Int) = -((1 : Int) * 1)) from ⟨⟨by decide, by decide⟩, by decide⟩
  · exact show ((-1000000 : Int) ≤ 0 ∧ 0 ≤ (1000000 : Int)) ∧ ((1 : Int) * (0 * 1 - 1 * 0) = 1 * 0) from ⟨⟨by decide, by decide⟩, by decide⟩
  · exact show ((-1000000 : Int) ≤ 0 ∧ 0 ≤ (1000000 : Int)) ∧ ((1 : Int) * ((-1) * 1 - 1 * (-1)) = 1 * 0) from ⟨⟨by decide, by decide⟩, by decide⟩
  · exact show ((-1000000 : Int) ≤ (R0 - R2) ∧ (R0 - R2) ≤ (1000000 : Int)) ∧ ((1 : Int) * ((R0 - R1) * 1 - 1 * (-R1 + R2)) = 1 * (R0 - R2)) from ⟨⟨by omega, by omega⟩, by grind⟩
  · exact show ((-1000000 : Int) ≤ (-1) ∧ (-1) ≤ (1000000 : Int)) ∧ ((1 : Int) * ((-1) * 1 - 1 * 0) = 1 * (-1)) from ⟨⟨by decide, by decide⟩, by decide⟩
  · exact show ((-1000000 : Int) ≤ (-1) ∧ (-1) ≤ (1000000 : Int)) ∧ ((-1 : Int) = -((1 : Int) * 1)) from ⟨⟨by decide, by decide⟩, by decide⟩
  · exact show ((-1000000 : Int) ≤ 0 ∧ 0 ≤ (1000000 : Int)) ∧ ((1 : Int) * (0 * 1 - 1 * 0) = 1 * 0) from ⟨⟨by decide, by decide⟩, by decide⟩
  · exact show ((-1000000 : Int) ≤ 0 ∧ 0 ≤ (1000000 : Int)) ∧ ((1 : Int) * ((-1) * 1 - 1 * (-1)) = 1 * 0) from ⟨⟨by decide, by decide⟩, by decide⟩
  · exact show ((-1000000 : Int) ≤ (-R2) ∧ (-R2) ≤ (1000000 : Int)) ∧ ((1 : Int) * ((-R1) * 1 - 1 * (-R1 + R2)) = 1 * (-R2)) from ⟨⟨by omega, by omega⟩, by grind⟩
  · exact show ((-1000000 : Int) ≤ 0 ∧ 0 ≤ (1000000 : Int)) ∧ ((0 : Int) = (1 : Int) * 0) from ⟨⟨by decide, by decide⟩, by decide⟩
  · exact show ((-1000000 : Int) ≤ 1 ∧ 1 ≤ (1000000 : Int)) ∧ ((1 : Int) = (1 : Int) * 1) from ⟨⟨by decide, by decide⟩, by decide⟩
  · exact show ((-1000000 : Int) ≤ 0 ∧ 0 ≤ (1000000 : Int)) ∧ ((0 : Int) = (1 : Int) * 0) from ⟨⟨by decide, by decide⟩, by decide⟩
  · exact show ((-1000000 : Int) ≤ (-1) ∧ (-1) ≤ (1000000 : Int)) ∧ ((-1 : Int) = (1 : Int) * (-1)) from ⟨⟨by decide, by decide⟩, by decide⟩
  · exact show ((-1000000 : Int) ≤ (-R1 + R2) ∧ (-R1 + R2) ≤ (1000000 : Int)) ∧ ((-R1 + R2 : Int) = (1 : Int) * (-R1 + R2)) from ⟨⟨by omega, by omega⟩, by grind⟩
  · exact show ((-1000000 : Int) ≤ (-1) ∧ (-1) ≤ (1000000 : Int)) ∧ ((1 : Int) * ((-1) * 1 - 2 * 0) = 1 * (-1)) from ⟨⟨by decide, by decide⟩, by decide⟩
  · exact show ((-1000000 : Int) ≤ (-2) ∧ (-2) ≤ (1000000 : Int)) ∧ ((-2 : Int) = -((1 : Int) * 2)) from ⟨⟨by decide, by decide⟩, by decide⟩
  · exact show ((-1000000 : Int) ≤ 0 ∧ 0 ≤ (1000000 : Int)) ∧ ((1 : Int) * (0 * 1 - 2 * 0) = 1 * 0) from ⟨⟨by decide, by decide⟩, by decide⟩
  · exact show ((-1000000 : Int) ≤ 1 ∧ 1 ≤ (1000000 : Int)) ∧ ((1 : Int) * ((-1) * 1 - 2 * (-1)) = 1 * 1) from ⟨⟨by decide, by decide⟩, by decide⟩
  · exact show ((-1000000 : Int) ≤ (R1 - 2 * R2 + R3) ∧ (R1 - 2 * R2 + R3) ≤ (1000000 : Int)) ∧ ((1 : Int) * ((-R1 + R3) * 1 - 2 * (-R1 + R2)) = 1 * (R1 - 2 * R2 + R3)) from ⟨⟨by omega, by omega⟩, by grind⟩
  · exact show ((-1000000 : Int) ≤ (-1) ∧ (-1) ≤ (1000000 : Int)) ∧ ((1 : Int) * ((-1) * 1 - 1 * 0) = 1 * (-1)) from ⟨⟨by decide, by decide⟩, by decide⟩
  · exact show ((-1000000 : Int) ≤ (-1) ∧ (-1) ≤ (1000000 : Int)) ∧ ((-1 : Int) = -((1 : Int) * 1)) from ⟨⟨by decide, by decide⟩, by decide⟩
  · exact show ((-1000000 : Int) ≤ 1 ∧ 1 ≤ (1000000 : Int)) ∧ ((1 : Int) * (1 * 1 - 1 * 0) = 1 * 1) from ⟨⟨by decide, by decide⟩, by decide⟩
  · exact show ((-1000000 : Int) ≤ 0 ∧ 0 ≤ (1000000 : Int)) ∧ ((1 : Int) * ((-1) * 1 - 1 * (-1)) = 1 * 0) from ⟨⟨by decide, by decide⟩, by decide⟩
  · exact show ((-1000000 : Int) ≤ (-R2 + R4) ∧ (-R2 + R4) ≤ (1000000 : Int)) ∧ ((1 : Int) * ((-R1 + R4) * 1 - 1 * (-R1 + R2)) = 1 * (-R2 + R4)) from ⟨⟨by omega, by omega⟩, by grind⟩
  · exact show ((-1000000 : Int) ≤ (-c) ∧ (-c) ≤ (1000000 : Int)) ∧ ((1 : Int) * ((-c) * 1 - 1 * 0) = 1 * (-c)) from ⟨⟨by omega, by omega⟩, by grind⟩
  · exact show ((-1000000 : Int) ≤ (-1) ∧ (-1) ≤ (1000000 : Int)) ∧ ((-1 : Int) = -((1 : Int) * 1)) from ⟨⟨by decide, by decide⟩, by decide⟩
  · exact show ((-1000000 : Int) ≤ 0 ∧ 0 ≤ (1000000 : Int)) ∧ ((1 : Int) * (0 * 1 - 1 * 0) = 1 * 0) from ⟨⟨by decide, by decide⟩, by decide⟩
  · exact show ((-1000000 : Int) ≤ 1 ∧ 1 ≤ (1000000 : Int)) ∧ ((1 : Int) * (0 * 1 - 1 * (-1)) = 1 * 1) from ⟨⟨by decide, by decide⟩, by decide⟩
  · exact show ((-1000000 : Int) ≤ (R1 - R2 + W0) ∧ (R1 - R2 + W0) ≤ (1000000 : Int)) ∧ ((1 : Int) * (W0 * 1 - 1 * (-R1 + R2)) = 1 * (R1 - R2 + W0)) from ⟨⟨by omega, by omega⟩, by grind⟩
  · exact show ((-1000000 : Int) ≤ 1 ∧ 1 ≤ (1000000 : Int)) ∧ ((1 : Int) * (1 * 1 - 0 * 0) = 1 * 1) from ⟨⟨by decide, by decide⟩, by decide⟩
  · exact show ((-1000000 : Int) ≤ 0 ∧ 0 ≤ (1000000 : Int)) ∧ ((0 : Int) = -((1 : Int) * 0)) from ⟨⟨by decide, by decide⟩, by decide⟩
  · exact show ((-1000000 : Int) ≤ 0 ∧ 0 ≤ (1000000 : Int)) ∧ ((1 : Int) * (0 * 1 - 0 * 0) = 1 * 0) from ⟨⟨by decide, by decide⟩, by decide⟩
  · exact show ((-1000000 : Int) ≤ 0 ∧ 0 ≤ (1000000 : Int)) ∧ ((1 : Int) * (0 * 1 - 0 * (-1)) = 1 * 0) from ⟨⟨by decide, by decide⟩, by decide⟩
  · exact show ((-1000000 : Int) ≤ W1 ∧ W1 ≤ (1000000 : Int)) ∧ ((1 : Int) * (W1 * 1 - 0 * (-R1 + R2)) = 1 * W1) from ⟨⟨by omega, by omega⟩, by grind⟩
  · exact show ((-1000000 : Int) ≤ 0 ∧ 0 ≤ (1000000 : Int)) ∧ ((1 : Int) * (0 * 1 - 1 * 0) = 1 * 0) from ⟨⟨by decide, by decide⟩, by decide⟩
  · exact show ((-1000000 : Int) ≤ (-1) ∧ (-1) ≤ (1000000 : Int)) ∧ ((-1 : Int) = -((1 : Int) * 1)) from ⟨⟨by decide, by decide⟩, by decide⟩
  · exact show ((-1000000 : Int) ≤ 0 ∧ 0 ≤ (1000000 : Int)) ∧ ((1 : Int) * (0 * 1 - 1 * 0) = 1 * 0) from ⟨⟨by decide, by decide⟩, by decide⟩
  · exact show ((-1000000 : Int) ≤ 1 ∧ 1 ≤ (1000000 : Int)) ∧ ((1 : Int) * (0 * 1 - 1 * (-1)) = 1 * 1) from ⟨⟨by decide, by decide⟩, by decide⟩
  · exact show ((-1000000 : Int) ≤ (R1 - R2 + W2) ∧ (R1 - R2 + W2) ≤ (1000000 : Int)) ∧ ((1 : Int) * (W2 * 1 - 1 * (-R1 + R2)) = 1 * (R1 - R2 + W2)) from ⟨⟨by omega, by omega⟩, by grind⟩
  · exact show ((-1000000 : Int) ≤ 0 ∧ 0 ≤ (1000000 : Int)) ∧ ((1 : Int) * (0 * 1 - 0 * 0) = 1 * 0) from ⟨⟨by decide, by decide⟩, by decide⟩
  · exact show ((-1000000 : Int) ≤ 0 ∧ 0 ≤ (1000000 : Int)) ∧ ((0 : Int) = -((1 : Int) * 0)) from ⟨⟨by decide, by decide⟩, by decide⟩
  · exact show ((-1000000 : Int) ≤ 1 ∧ 1 ≤ (1000000 : Int)) ∧ ((1 : Int) * (1 * 1 - 0 * 0) = 1 * 1) from ⟨⟨by decide, by decide⟩, by decide⟩
  · exact show ((-1000000 : Int) ≤ 0 ∧ 0 ≤ (1000000 : Int)) ∧ ((1 : Int) * (0 * 1 - 0 * (-1)) = 1 * 0) from ⟨⟨by decide, by decide⟩, by decide⟩
  · exact show ((-1000000 : Int) ≤ W3 ∧ W3 ≤ (1000000 : Int)) ∧ ((1 : Int) * (W3 * 1 - 0 * (-R1 + R2)) = 1 * W3) from ⟨⟨by omega, by omega⟩, by grind⟩
  · exact show ((-1000000 : Int) ≤ 1 ∧ 1 ≤ (1000000 : Int)) ∧ ((1 : Int) * (1 * 1 - (-1) * 0) = 1 * 1) from ⟨⟨by decide, by decide⟩, by decide⟩
  · exact show ((-1000000 : Int) ≤ 1 ∧ 1 ≤ (1000000 : Int)) ∧ ((1 : Int) = -((1 : Int) * (-1))) from ⟨⟨by decide, by decide⟩, by decide⟩
  · exact show ((-1000000 : Int) ≤ 0 ∧ 0 ≤ (1000000 : Int)) ∧ ((1 : Int) * (0 * 1 - (-1) * 0) = 1 * 0) from ⟨⟨by decide, by decide⟩, by decide⟩
  · exact show ((-1000000 : Int) ≤ 0 ∧ 0 ≤ (1000000 : Int)) ∧ ((1 : Int) * (1 * 1 - (-1) * (-1)) = 1 * 0) from ⟨⟨by decide, by decide⟩, by decide⟩
  · exact show ((-1000000 : Int) ≤ R2 ∧ R2 ≤ (1000000 : Int)) ∧ ((1 : Int) * (R1 * 1 - (-1) * (-R1 + R2)) = 1 * R2) from ⟨⟨by omega, by omega⟩, by grind⟩
def ap_MB0 (p c R0 R1 R2 R3 R4 W0 W1 W2 W3 : Int) : List (List Int) := [[-1 + p, 1, 0, -1, R0 - R1], [-p, -1, 0, 0, -R0], [1 - p, -1, 0, 0, -R0 + R2], [1 - 2 * p, -2, 0, 1, -(2 * R0) + R1 + R3], [-p, -1, 1, 0, -R0 + R4], [1 - c - p, -1, 0, 1, -R0 + R1 + W0], [1, 0, 0, 0, W1], [1 - p, -1, 0, 1, -R0 + R1 + W2], [0, 0, 1, 0, W3], [p, 1, 0, 0, R0]]
theorem ap_cB0 {p c R0 R1 R2 R3 R4 W0 W1 W2 W3 : Int} (h : ap_bd p c R0 R1 R2 R3 R4 W0 W1 W2 W3) : ∀ r c', r < 10 → c' < 5 → ap_s (ap_at (ap_MB0 p c R0 R1 R2 R3 R4 W0 W1 W2 W3) r c') ∧ ap_cert (ap_MB13 p c R0 R1 R2 R3 R4 W0 W1 W2 W3) (ap_MB0 p c R0 R1 R2 R3 R4 W0 W1 W2 W3) 1 1 0 1 4 r c' := by
  obtain ⟨hp, hc, hR0, hR1, hR2, hR3, hR4, hW0, hW1, hW2, hW3, q1, q2, q3, q4, q5, q6, q7, q8, q9, q10, q11, q12⟩ := h
  refine ap_rc10 (ap_c5 ?_ ?_ ?_ ?_ ?_) (ap_c5 ?_ ?_ ?_ ?_ ?_) (ap_c5 ?_ ?_ ?_ ?_ ?_) (ap_c5 ?_ ?_ ?_ ?_ ?_) (ap_c5 ?_ ?_ ?_ ?_ ?_) (ap_c5 ?_ ?_ ?_ ?_ ?_) (ap_c5 ?_ ?_ ?_ ?_ ?_) (ap_c5 ?_ ?_ ?_ ?_ ?_) (ap_c5 ?_ ?_ ?_ ?_ ?_) (ap_c5 ?_ ?_ ?_ ?_ ?_)
  · exact show ((-1000000 : Int) ≤ (-1 + p) ∧ (-1 + p) ≤ (1000000 : Int)) ∧ ((-1 + p : Int) = (1 : Int) * (-1 + p)) from ⟨⟨by omega, by omega⟩, by grind⟩
  · exact show ((-1000000 : Int) ≤ 1 ∧ 1 ≤ (1000000 : Int)) ∧ ((1 : Int) = (1 : Int) * 1) from ⟨⟨by decide, by decide⟩, by decide⟩
  · exact show ((-1000000 : Int) ≤ 0 ∧ 0 ≤ (1000000 : Int)) ∧ ((0 : Int) = (1 : Int) * 0) from ⟨⟨by decide, by decide⟩, by decide⟩
  · exact show ((-1000000 : Int) ≤ (-1) ∧ (-1) ≤ (1000000 : Int)) ∧ ((-1 : Int) = (1 : Int) * (-1)) from ⟨⟨by decide, by decide⟩, by decide⟩
  · exact show ((-1000000 : Int) ≤ (R0 - R1) ∧ (R0 - R1) ≤ (1000000 : Int)) ∧ ((R0 - R1 : Int) = (1 : Int) * (R0 - R1)) from ⟨⟨by omega, by omega⟩, by grind⟩
  · exact show ((-1000000 : Int) ≤ (-p) ∧ (-p) ≤ (1000000 : Int)) ∧ ((1 : Int) * ((-1) * 1 - 1 * (-1 + p)) = 1 * (-p)) from ⟨⟨by omega, by omega⟩, by grind⟩
  · exact show ((-1000000 : Int) ≤ (-1) ∧ (-1) ≤ (1000000 : Int)) ∧ ((-1 : Int) = -((1 : Int) * 1)) from ⟨⟨by decide, by decide⟩, by decide⟩
  · exact show ((-1000000 : Int) ≤ 0 ∧ 0 ≤ (1000000 : Int)) ∧ ((1 : Int) * (0 * 1 - 1 * 0) = 1 * 0) from ⟨⟨by decide, by decide⟩, by decide⟩
  · exact show ((-1000000 : Int) ≤ 0 ∧ 0 ≤ (1000000 : Int)) ∧ ((1 : Int) * ((-1) * 1 - 1 * (-1)) = 1 * 0) from ⟨⟨by decide, by decide⟩, by decide⟩
  · exact show ((-1000000 : Int) ≤ (-R0) ∧ (-R0) ≤ (1000000 : Int)) ∧ ((1 : Int) * ((-R1) * 1 - 1 * (R0 - R1)) = 1 * (-R0)) from ⟨⟨by omega, by omega⟩, by grind⟩
  · exact show ((-1000000 : Int) ≤ (1 - p) ∧ (1 - p) ≤ (1000000 : Int)) ∧ ((1 : Int) * (0 * 1 - 1 * (-1 + p)) = 1 * (1 - p)) from ⟨⟨by omega, by omega⟩, by grind⟩
  · exact show ((-1000000 : Int) ≤ (-1) ∧ (-1) ≤ (1000000 : Int)) ∧ ((-1 : Int) = -((1 : Int) * 1)) from ⟨⟨by decide, by decide⟩, by decide⟩
  · exact show ((-1000000 : Int) ≤ 0 ∧ 0 ≤ (1000000 : Int)) ∧ ((1 : Int) * (0 * 1 - 1 * 0) = 1 * 0) from ⟨⟨by decide, by decide⟩, by decide⟩
  · exact show ((-1000000 : Int) ≤ 0 ∧ 0 ≤ (1000000 : Int)) ∧ ((1 : Int) * ((-1) * 1 - 1 * (-1)) = 1 * 0) from ⟨⟨by decide, by decide⟩, by decide⟩
  · exact show ((-1000000 : Int) ≤ (-R0 + R2) ∧ (-R0 + R2) ≤ (1000000 : Int)) ∧ ((1 : Int) * ((-R1 + R2) * 1 - 1 * (R0 - R1)) = 1 * (-R0 + R2)) from ⟨⟨by omega, by omega⟩, by grind⟩
  · exact show ((-1000000 : Int) ≤ (1 - 2 * p) ∧ (1 - 2 * p) ≤ (1000000 : Int)) ∧ ((1 : Int) * ((-1) * 1 - 2 * (-1 + p)) = 1 * (1 - 2 * p)) from ⟨⟨by omega, by omega⟩, by grind⟩
  · exact show ((-1000000 : Int) ≤ (-2) ∧ (-2) ≤ (1000000 : Int)) ∧ ((-2 : Int) = -((1 : Int) * 2)) from ⟨⟨by decide, by decide⟩, by decide⟩
  · exact show ((-1000000 : Int) ≤ 0 ∧ 0 ≤ (1000000 : Int)) ∧ ((1 : Int) * (0 * 1 - 2 * 0) = 1 * 0) from ⟨⟨by decide, by decide⟩, by decide⟩
  · exact show ((-1000000 : Int) ≤ 1 ∧ 1 ≤ (1000000 : Int)) ∧ ((1 : Int) * ((-1) * 1 - 2 * (-1)) = 1 * 1) from ⟨⟨by decide, by decide⟩, by decide⟩
  · exact show ((-1000000 : Int) ≤ (-(2 * R0) + R1 + R3) ∧ (-(2 * R0) + R1 + R3) ≤ (1000000 : Int)) ∧ ((1 : Int) * ((-R1 + R3) * 1 - 2 * (R0 - R1)) = 1 * (-(2 * R0) + R1 + R3)) from ⟨⟨by omega, by omega⟩, by grind⟩
  · exact show ((-1000000 : Int) ≤ (-p) ∧ (-p) ≤ (1000000 : Int)) ∧ ((1 : Int) * ((-1) * 1 - 1 * (-1 + p)) = 1 * (-p)) from ⟨⟨by omega, by omega⟩, by grind⟩
  · exact show ((-1000000 : Int) ≤ (-1) ∧ (-1) ≤ (1000000 : Int)) ∧ ((-1 : Int) = -((1 : Int) * 1)) from ⟨⟨by decide, by decide⟩, by decide⟩
  · exact show ((-1000000 : Int) ≤ 1 ∧ 1 ≤ (1000000 : Int)) ∧ ((1 : Int) * (1 * 1 - 1 * 0) = 1 * 1) from ⟨⟨by decide, by decide⟩, by decide⟩
  · exact show ((-1000000 : Int) ≤ 0 ∧ 0 ≤ (1000000 : Int)) ∧ ((1 : Int) * ((-1) * 1 - 1 * (-1)) = 1 * 0) from ⟨⟨by decide, by decide⟩, by decide⟩
  · exact show ((-1000000 : Int) ≤ (-R0 + R4) ∧ (-R0 + R4) ≤ (1000000 : Int)) ∧ ((1 : Int) * ((-R1 + R4) * 1 - 1 * (R0 - R1)) = 1 * (-R0 + R4)) from ⟨⟨by omega, by omega⟩, by grind⟩
  · exact show ((-1000000 : Int) ≤ (1 - c - p) ∧ (1 - c - p) ≤ (1000000 : Int)) ∧ ((1 : Int) * ((-c) * 1 - 1 * (-1 + p)) = 1 * (1 - c - p)) from ⟨⟨by omega, by omega⟩, by grind⟩
  · exact show ((-1000000 : Int) ≤ (-1) ∧ (-1) ≤ (1000000 : Int)) ∧ ((-1 : Int) = -((1 : Int) * 1)) from ⟨⟨by decide, by decide⟩, by decide⟩
  · exact show ((-1000000 : Int) ≤ 0 ∧ 0 ≤ (1000000 : Int)) ∧ ((1 : Int) * (0 * 1 - 1 * 0) = 1 * 0) from ⟨⟨by decide, by decide⟩, by decide⟩
  · exact show ((-1000000 : Int) ≤ 1 ∧ 1 ≤ (1000000 : Int)) ∧ ((1 : Int) * (0 * 1 - 1 * (-1)) = 1 * 1) from ⟨⟨by decide, by decide⟩, by decide⟩
  · exact show ((-1000000 : Int) ≤ (-R0 + R1 + W0) ∧ (-R0 + R1 + W0) ≤ (1000000 : Int)) ∧ ((1 : Int) * (W0 * 1 - 1 * (R0 - R1)) = 1 * (-R0 + R1 + W0)) from ⟨⟨by omega, by omega⟩, by grind⟩
  · exact show ((-1000000 : Int) ≤ 1 ∧ 1 ≤ (1000000 : Int)) ∧ ((1 : Int) * (1 * 1 - 0 * (-1 + p)) = 1 * 1) from ⟨⟨by decide, by decide⟩, by grind⟩
  · exact show ((-1000000 : Int) ≤ 0 ∧ 0 ≤ (1000000 : Int)) ∧ ((0 : Int) = -((1 : Int) * 0)) from ⟨⟨by decide, by decide⟩, by decide⟩
  · exact show ((-1000000 : Int) ≤ 0 ∧ 0 ≤ (1000000 : Int)) ∧ ((1 : Int) * (0 * 1 - 0 * 0) = 1 * 0) from ⟨⟨by decide, by decide⟩, by decide⟩
  · exact show ((-1000000 : Int) ≤ 0 ∧ 0 ≤ (1000000 : Int)) ∧ ((1 : Int) * (0 * 1 - 0 * (-1)) = 1 * 0) from ⟨⟨by decide, by decide⟩, by decide⟩
  · exact show ((-1000000 : Int) ≤ W1 ∧ W1 ≤ (1000000 : Int)) ∧ ((1 : Int) * (W1 * 1 - 0 * (R0 - R1)) = 1 * W1) from ⟨⟨by omega, by omega⟩, by grind⟩
  · exact show ((-1000000 : Int) ≤ (1 - p) ∧ (1 - p) ≤ (1000000 : Int)) ∧ ((1 : Int) * (0 * 1 - 1 * (-1 + p)) = 1 * (1 - p)) from ⟨⟨by omega, by omega⟩, by grind⟩
  · exact show ((-1000000 : Int) ≤ (-1) ∧ (-1) ≤ (1000000 : Int)) ∧ ((-1 : Int) = -((1 : Int) * 1)) from ⟨⟨by decide, by decide⟩, by decide⟩
  · exact show ((-1000000 : Int) ≤ 0 ∧ 0 ≤ (1000000 : Int)) ∧ ((1 : Int) * (0 * 1 - 1 * 0) = 1 * 0) from ⟨⟨by decide, by decide⟩, by decide⟩
  · exact show ((-1000000 : Int) ≤ 1 ∧ 1 ≤ (1000000 : Int)) ∧ ((1 : Int) * (0 * 1 - 1 * (-1)) = 1 * 1) from ⟨⟨by decide, by decide⟩, by decide⟩
  · exact show ((-1000000 : Int) ≤ (-R0 + R1 + W2) ∧ (-R0 + R1 + W2) ≤ (1000000 : Int)) ∧ ((1 : Int) * (W2 * 1 - 1 * (R0 - R1)) = 1 * (-R0 + R1 + W2)) from ⟨⟨by omega, by omega⟩, by grind⟩
  · exact show ((-1000000 : Int) ≤ 0 ∧ 0 ≤ (1000000 : Int)) ∧ ((1 : Int) * (0 * 1 - 0 * (-1 + p)) = 1 * 0) from ⟨⟨by decide, by decide⟩, by grind⟩
  · exact show ((-1000000 : Int) ≤ 0 ∧ 0 ≤ (1000000 : Int)) ∧ ((0 : Int) = -((1 : Int) * 0)) from ⟨⟨by decide, by decide⟩, by decide⟩
  · exact show ((-1000000 : Int) ≤ 1 ∧ 1 ≤ (1000000 : Int)) ∧ ((1 : Int) * (1 * 1 - 0 * 0) = 1 * 1) from ⟨⟨by decide, by decide⟩, by decide⟩
  · exact show ((-1000000 : Int) ≤ 0 ∧ 0 ≤ (1000000 : Int)) ∧ ((1 : Int) * (0 * 1 - 0 * (-1)) = 1 * 0) from ⟨⟨by decide, by decide⟩, by decide⟩
  · exact show ((-1000000 : Int) ≤ W3 ∧ W3 ≤ (1000000 : Int)) ∧ ((1 : Int) * (W3 * 1 - 0 * (R0 - R1)) = 1 * W3) from ⟨⟨by omega, by omega⟩, by grind⟩
  · exact show ((-1000000 : Int) ≤ p ∧ p ≤ (1000000 : Int)) ∧ ((1 : Int) * (1 * 1 - (-1) * (-1 + p)) = 1 * p) from ⟨⟨by omega, by omega⟩, by grind⟩
  · exact show ((-1000000 : Int) ≤ 1 ∧ 1 ≤ (1000000 : Int)) ∧ ((1 : Int) = -((1 : Int) * (-1))) from ⟨⟨by decide, by decide⟩, by decide⟩
  · exact show ((-1000000 : Int) ≤ 0 ∧ 0 ≤ (1000000 : Int)) ∧ ((1 : Int) * (0 * 1 - (-1) * 0) = 1 * 0) from ⟨⟨by decide, by decide⟩, by decide⟩
  · exact show ((-1000000 : Int) ≤ 0 ∧ 0 ≤ (1000000 : Int)) ∧ ((1 : Int) * (1 * 1 - (-1) * (-1)) = 1 * 0) from ⟨⟨by decide, by decide⟩, by decide⟩
  · exact show ((-1000000 : Int) ≤ R0 ∧ R0 ≤ (1000000 : Int)) ∧ ((1 : Int) * (R1 * 1 - (-1) * (R0 - R1)) = 1 * R0) from ⟨⟨by omega, by omega⟩, by grind⟩
def ap_MB3 (p c R0 R1 R2 R3 R4 W0 W1 W2 W3 : Int) : List (List Int) := [[-1 + 2 * p, -1, 0, -1, 2 * R0 - R1 - R3], [-1, -1, 0, -1, -R1 - R3], [1, -1, 0, -1, -R1 + 2 * R2 - R3], [-1, 1, 0, -1, -R1 + R3], [-1, -1, 2, -1, -R1 - R3 + 2 * R4], [1 - 2 * c, -1, 0, 1, R1 - R3 + 2 * W0], [2, 0, 0, 0, 2 * W1], [1, -1, 0, 1, R1 - R3 + 2 * W2], [0, 0, 2, 0, 2 * W3], [1, 1, 0, 1, R1 + R3]]
theorem ap_cB3 {p c R0 R1 R2 R3 R4 W0 W1 W2 W3 : Int} (h : ap_bd p c R0 R1 R2 R3 R4 W0 W1 W2 W3) : ∀ r c', r < 10 → c' < 5 → ap_s (ap_at (ap_MB3 p c R0 R1 R2 R3 R4 W0 W1 W2 W3) r c') ∧ ap_cert (ap_MB13 p c R0 R1 R2 R3 R4 W0 W1 W2 W3) (ap_MB3 p c R0 R1 R2 R3 R4 W0 W1 W2 W3) 1 1 3 1 4 r c' := by
  obtain ⟨hp, hc, hR0, hR1, hR2, hR3, hR4, hW0, hW1, hW2, hW3, q1, q2, q3, q4, q5, q6, q7, q8, q9, q10, q11, q12⟩ := h
  refine ap_rc10 (ap_c5 ?_ ?_ ?_ ?_ ?_) (ap_c5 ?_ ?_ ?_ ?_ ?_) (ap_c5 ?_ ?_ ?_ ?_ ?_) (ap_c5 ?_ ?_ ?_ ?_ ?_) (ap_c5 ?_ ?_ ?_ ?_ ?_) (ap_c5 ?_ ?_ ?_ ?_ ?_) (ap_c5 ?_ ?_ ?_ ?_ ?_) (ap_c5 ?_ ?_ ?_ ?_ ?_) (ap_c5 ?_ ?_ ?_ ?_ ?_) (ap_c5 ?_ ?_ ?_ ?_ ?_)
  · exact show ((-1000000 : Int) ≤ (-1 + 2 * p) ∧ (-1 + 2 * p) ≤ (1000000 : Int)) ∧ ((1 : Int) * ((-1 + p) * 2 - 1 * (-1)) = 1 * (-1 + 2 * p)) from ⟨⟨by omega, by omega⟩, by grind⟩
  · exact show ((-1000000 : Int) ≤ (-1) ∧ (-1) ≤ (1000000 : Int)) ∧ ((-1 : Int) = -((1 : Int) * 1)) from ⟨⟨by decide, by decide⟩, by decide⟩
  · exact show ((-1000000 : Int) ≤ 0 ∧ 0 ≤ (1000000 : Int)) ∧ ((1 : Int) * (0 * 2 - 1 * 0) = 1 * 0) from ⟨⟨by decide, by decide⟩, by decide⟩
  · exact show ((-1000000 : Int) ≤ (-1) ∧ (-1) ≤ (1000000 : Int)) ∧ ((1 : Int) * ((-1) * 2 - 1 * (-1)) = 1 * (-1)) from ⟨⟨by decide, by decide⟩, by decide⟩
  · exact show ((-1000000 : Int) ≤ (2 * R0 - R1 - R3) ∧ (2 * R0 - R1 - R3) ≤ (1000000 : Int)) ∧ ((1 : Int) * ((R0 - R1) * 2 - 1 * (-R1 + R3)) = 1 * (2 * R0 - R1 - R3)) from ⟨⟨by omega, by omega⟩, by grind⟩
  · exact show ((-1000000 : Int) ≤ (-1) ∧ (-1) ≤ (1000000 : Int)) ∧ ((1 : Int) * ((-1) * 2 - 1 * (-1)) = 1 * (-1)) from ⟨⟨by decide, by decide⟩, by decide⟩
  · exact show ((-1000000 : Int) ≤ (-1) ∧ (-1) ≤ (1000000 : Int)) ∧ ((-1 : Int) = -((1 : Int) * 1)) from ⟨⟨by decide, by decide⟩, by decide⟩
  · exact show ((-1000000 : Int) ≤ 0 ∧ 0 ≤ (1000000 : Int)) ∧ ((1 : Int) * (0 * 2 - 1 * 0) = 1 * 0) from ⟨⟨by decide, by decide⟩, by decide⟩
  · exact show ((-1000000 : Int) ≤ (-1) ∧ (-1) ≤ (1000000 : Int)) ∧ ((1 : Int) * ((-1) * 2 - 1 * (-1)) = 1 * (-1)) from ⟨⟨by decide, by decide⟩, by decide⟩
  · exact show ((-1000000 : Int) ≤ (-R1 - R3) ∧ (-R1 - R3) ≤ (1000000 : Int)) ∧ ((1 : Int) * ((-R1) * 2 - 1 * (-R1 + R3)) = 1 * (-R1 - R3)) from ⟨⟨by omega, by omega⟩, by grind⟩
  · exact show ((-1000000 : Int) ≤ 1 ∧ 1 ≤ (1000000 : Int)) ∧ ((1 : Int) * (0 * 2 - 1 * (-1)) = 1 * 1) from ⟨⟨by decide, by decide⟩, by decide⟩
  · exact show ((-1000000 : Int) ≤ (-1) ∧ (-1) ≤ (1000000 : Int)) ∧ ((-1 : Int) = -((1 : Int) * 1)) from ⟨⟨by decide, by decide⟩, by decide⟩
  · exact show ((-1000000 : Int) ≤ 0 ∧ 0 ≤ (1000000 : Int)) ∧ ((1 : Int) * (0 * 2 - 1 * 0) = 1 * 0) from ⟨⟨by decide, by decide⟩, by decide⟩
  · exact show ((-1000000 : Int) ≤ (-1) ∧ (-1) ≤ (1000000 : Int)) ∧ ((1 : Int) * ((-1) * 2 - 1 * (-1)) = 1 * (-1)) from ⟨⟨by decide, by decide⟩, by decide⟩
  · exact show ((-1000000 : Int) ≤ (-R1 + 2 * R2 - R3) ∧ (-R1 + 2 * R2 - R3) ≤ (1000000 : Int)) ∧ ((1 : Int) * ((-R1 + R2) * 2 - 1 * (-R1 + R3)) = 1 * (-R1 + 2 * R2 - R3)) from ⟨⟨by omega, by omega⟩, by grind⟩
  · exact show ((-1000000 : Int) ≤ (-1) ∧ (-1) ≤ (1000000 : Int)) ∧ ((-1 : Int) = (1 : Int) * (-1)) from ⟨⟨by decide, by decide⟩, by decide⟩
  · exact show ((-1000000 : Int) ≤ 1 ∧ 1 ≤ (1000000 : Int)) ∧ ((1 : Int) = (1 : Int) * 1) from ⟨⟨by decide, by decide⟩, by decide⟩
  · exact show ((-1000000 : Int) ≤ 0 ∧ 0 ≤ (1000000 : Int)) ∧ ((0 : Int) = (1 : Int) * 0) from ⟨⟨by decide, by decide⟩, by decide⟩
  · exact show ((-1000000 : Int) ≤ (-1) ∧ (-1) ≤ (1000000 : Int)) ∧ ((-1 : Int) = (1 : Int) * (-1)) from ⟨⟨by decide, by decide⟩, by decide⟩
  · exact show ((-1000000 : Int) ≤ (-R1 + R3) ∧ (-R1 + R3) ≤ (1000000 : Int)) ∧ ((-R1 + R3 : Int) = (1 : Int) * (-R1 + R3)) from ⟨⟨by omega, by omega⟩, by grind⟩
  · exact show ((-1000000 : Int) ≤ (-1) ∧ (-1) ≤ (1000000 : Int)) ∧ ((1 : Int) * ((-1) * 2 - 1 * (-1)) = 1 * (-1)) from ⟨⟨by decide, by decide⟩, by decide⟩
  · exact show ((-1000000 : Int) ≤ (-1) ∧ (-1) ≤ (1000000 : Int)) ∧ ((-1 : Int) = -((1 : Int) * 1)) from ⟨⟨by decide, by decide⟩, by decide⟩
  · exact show ((-1000000 : Int) ≤ 2 ∧ 2 ≤ (1000000 : Int)) ∧ ((1 : Int) * (1 * 2 - 1 * 0) = 1 * 2) from ⟨⟨by decide, by decide⟩, by decide⟩
  · exact show ((-1000000 : Int) ≤ (-1) ∧ (-1) ≤ (1000000 : Int)) ∧ ((1 : Int) * ((-1) * 2 - 1 * (-1)) = 1 * (-1)) from ⟨⟨by decide, by decide⟩, by decide⟩
  · exact show ((-1000000 : Int) ≤ (-R1 - R3 + 2 * R4) ∧ (-R1 - R3 + 2 * R4) ≤ (1000000 : Int)) ∧ ((1 : Int) * ((-R1 + R4) * 2 - 1 * (-R1 + R3)) = 1 * (-R1 - R3 + 2 * R4)) from ⟨⟨by omega, by omega⟩, by grind⟩
  · exact show ((-1000000 : Int) ≤ (1 - 2 * c) ∧ (1 - 2 * c) ≤ (1000000 : Int)) ∧ ((1 : Int) * ((-c) * 2 - 1 * (-1)) = 1 * (1 - 2 * c)) from ⟨⟨by omega, by omega⟩, by grind⟩
  · exact show ((-1000000 : Int) ≤ (-1) ∧ (-1) ≤ (1000000 : Int)) ∧ ((-1 : Int) = -((1 : Int) * 1)) from ⟨⟨by decide, by decide⟩, by decide⟩
  · exact show ((-1000000 : Int) ≤ 0 ∧ 0 ≤ (1000000 : Int)) ∧ ((1 : Int) * (0 * 2 - 1 * 0) = 1 * 0) from ⟨⟨by decide, by decide⟩, by decide⟩
  · exact show ((-1000000 : Int) ≤ 1 ∧ 1 ≤ (1000000 : Int)) ∧ ((1 : Int) * (0 * 2 - 1 * (-1)) = 1 * 1) from ⟨⟨by decide, by decide⟩, by decide⟩
  · exact show ((-1000000 : Int) ≤ (R1 - R3 + 2 * W0) ∧ (R1 - R3 + 2 * W0) ≤ (1000000 : Int)) ∧ ((1 : Int) * (W0 * 2 - 1 * (-R1 + R3)) = 1 * (R1 - R3 + 2 * W0)) from ⟨⟨by omega, by omega⟩, by grind⟩
  · exact show ((-1000000 : Int) ≤ 2 ∧ 2 ≤ (1000000 : Int)) ∧ ((1 : Int) * (1 * 2 - 0 * (-1)) = 1 * 2) from ⟨⟨by decide, by decide⟩, by decide⟩
  · exact show ((-1000000 : Int) ≤ 0 ∧ 0 ≤ (1000000 : Int)) ∧ ((0 : Int) = -((1 : Int) * 0)) from ⟨⟨by decide, by decide⟩, by decide⟩
  · exact show ((-1000000 : Int) ≤ 0 ∧ 0 ≤ (1000000 : Int)) ∧ ((1 : Int) * (0 * 2 - 0 * 0) = 1 * 0) from ⟨⟨by decide, by decide⟩, by decide⟩
  · exact show ((-1000000 : Int) ≤ 0 ∧ 0 ≤ (1000000 : Int)) ∧ ((1 : Int) * (0 * 2 - 0 * (-1)) = 1 * 0) from ⟨⟨by decide, by decide⟩, by decide⟩
  · exact show ((-1000000 : Int) ≤ (2 * W1) ∧ (2 * W1) ≤ (1000000 : Int)) ∧ ((1 : Int) * (W1 * 2 - 0 * (-R1 + R3)) = 1 * (2 * W1)) from ⟨⟨by omega, by omega⟩, by grind⟩
  · exact show ((-1000000 : Int) ≤ 1 ∧ 1 ≤ (1000000 : Int)) ∧ ((1 : Int) * (0 * 2 - 1 * (-1)) = 1 * 1) from ⟨⟨by decide, by decide⟩, by decide⟩
  · exact show ((-1000000 : Int) ≤ (-1) ∧ (-1) ≤ (1000000 : Int)) ∧ ((-1 : Int) = -((1 : Int) * 1)) from ⟨⟨by decide, by decide⟩, by decide⟩
  · exact show ((-1000000 : Int) ≤ 0 ∧ 0 ≤ (1000000 : Int)) ∧ ((1 : Int) * (0 * 2 - 1 * 0) = 1 * 0) from ⟨⟨by decide, by decide⟩, by decide⟩
  · exact show ((-1000000 : Int) ≤ 1 ∧ 1 ≤ (1000000 : Int)) ∧ ((1 : Int) * (0 * 2 - 1 * (-1)) = 1 * 1) from ⟨⟨by decide, by decide⟩, by decide⟩
  · exact show ((-1000000 : Int) ≤ (R1 - R3 + 2 * W2) ∧ (R1 - R3 + 2 * W2) ≤ (1000000 : Int)) ∧ ((1 : Int) * (W2 * 2 - 1 * (-R1 + R3)) = 1 * (R1 - R3 + 2 * W2)) from ⟨⟨by omega, by omega⟩, by grind⟩
  · exact show ((-1000000 : Int) ≤ 0 ∧ 0 ≤ (1000000 : Int)) ∧ ((1 : Int) * (0 * 2 - 0 * (-1)) = 1 * 0) from ⟨⟨by decide, by decide⟩, by decide⟩
  · exact show ((-1000000 : Int) ≤ 0 ∧ 0 ≤ (1000000 : Int)) ∧ ((0 : Int) = -((1 : Int) * 0)) from ⟨⟨by decide, by decide⟩, by decide⟩
  · exact show ((-1000000 : Int) ≤ 2 ∧ 2 ≤ (1000000 : Int)) ∧ ((1 : Int) * (1 * 2 - 0 * 0) = 1 * 2) from ⟨⟨by decide, by decide⟩, by decide⟩
  · exact show ((-1000000 : Int) ≤ 0 ∧ 0 ≤ (1000000 : Int)) ∧ ((1 : Int) * (0 * 2 - 0 * (-1)) = 1 * 0) from ⟨⟨by decide, by decide⟩, by decide⟩
  · exact show ((-1000000 : Int) ≤ (2 * W3) ∧ (2 * W3) ≤ (1000000 : Int)) ∧ ((1 : Int) * (W3 * 2 - 0 * (-R1 + R3)) = 1 * (2 * W3)) from ⟨⟨by omega, by omega⟩, by grind⟩
  · exact show ((-1000000 : Int) ≤ 1 ∧ 1 ≤ (1000000 : Int)) ∧ ((1 : Int) * (1 * 2 - (-1) * (-1)) = 1 * 1) from ⟨⟨by decide, by decide⟩, by decide⟩
  · exact show ((-1000000 : Int) ≤ 1 ∧ 1 ≤ (1000000 : Int)) ∧ ((1 : Int) = -((1 : Int) * (-1))) from ⟨⟨by decide, by decide⟩, by decide⟩
  · exact show ((-1000000 : Int) ≤ 0 ∧ 0 ≤ (1000000 : Int)) ∧ ((1 : Int) * (0 * 2 - (-1) * 0) = 1 * 0) from ⟨⟨by decide, by decide⟩, by decide⟩
  · exact show ((-1000000 : Int) ≤ 1 ∧ 1 ≤ (1000000 : Int)) ∧ ((1 : Int) * (1 * 2 - (-1) * (-1)) = 1 * 1) from ⟨⟨by decide, by decide⟩, by decide⟩
  · exact show ((-1000000 : Int) ≤ (R1 + R3) ∧ (R1 + R3) ≤ (1000000 : Int)) ∧ ((1 : Int) * (R1 * 2 - (-1) * (-R1 + R3)) = 1 * (R1 + R3)) from ⟨⟨by omega, by omega⟩, by grind⟩
def ap_ME2 (p c R0 R1 R2 R3 R4 W0 W1 W2 W3 : Int) : List (List Int) := [[-1 + p, -p, 0, 0, R0 - R2 * p], [-1, 1, 0, 0, R2], [0, 1, 0, -1, -R1 + R2], [-1, -1, 0, 1, R1 - R2 + R3], [-1, 0, 1, 0, R4], [-c, -1 + c, 0, 1, R1 - R2 + W0 + R2 * c], [1, -1, 0, 0, -R2 + W1], [0, -1, 0, 1, R1 - R2 + W2], [0, 0, 1, 0, W3], [1, 0, 0, 0, 0]]
theorem ap_cE2 {p c R0 R1 R2 R3 R4 W0 W1 W2 W3 : Int} (h : ap_bd p c R0 R1 R2 R3 R4 W0 W1 W2 W3) : ∀ r c', r < 10 → c' < 5 → ap_s (ap_at (ap_ME2 p c R0 R1 R2 R3 R4 W0 W1 W2 W3) r c') ∧ ap_cert (ap_MB2 p c R0 R1 R2 R3 R4 W0 W1 W2 W3) (ap_ME2 p c R0 R1 R2 R3 R4 W0 W1 W2 W3) 1 (-1) 1 0 4 r c' := by
  obtain ⟨hp, hc, hR0, hR1, hR2, hR3, hR4, hW0, hW1, hW2, hW3, q1, q2, q3, q4, q5, q6, q7, q8, q9, q10, q11, q12⟩ := h
  refine ap_rc10 (ap_c5 ?_ ?_ ?_ ?_ ?_) (ap_c5 ?_ ?_ ?_ ?_ ?_) (ap_c5 ?_ ?_ ?_ ?_ ?_) (ap_c5 ?_ ?_ ?_ ?_ ?_) (ap_c5 ?_ ?_ ?_ ?_ ?_) (ap_c5 ?_ ?_ ?_ ?_ ?_) (ap_c5 ?_ ?_ ?_ ?_ ?_) (ap_c5 ?_ ?_ ?_ ?_ ?_) (ap_c5 ?_ ?_ ?_ ?_ ?_) (ap_c5 ?_ ?_ ?_ ?_ ?_)
  · exact show ((-1000000 : Int) ≤ (-1 + p) ∧ (-1 + p) ≤ (1000000 : Int)) ∧ ((-1 + p : Int) = -((-1 : Int) * (-1 + p))) from ⟨⟨by omega, by omega⟩, by grind⟩
  · exact show ((-1000000 : Int) ≤ (-p) ∧ (-p) ≤ (1000000 : Int)) ∧ ((-1 : Int) * ((-1) * (-1) - (-1 + p) * (-1)) = 1 * (-p)) from ⟨⟨by omega, by omega⟩, by grind⟩
  · exact show ((-1000000 : Int) ≤ 0 ∧ 0 ≤ (1000000 : Int)) ∧ ((-1 : Int) * (0 * (-1) - (-1 + p) * 0) = 1 * 0) from ⟨⟨by decide, by decide⟩, by grind⟩
  · exact show ((-1000000 : Int) ≤ 0 ∧ 0 ≤ (1000000 : Int)) ∧ ((-1 : Int) * (0 * (-1) - (-1 + p) * 0) = 1 * 0) from ⟨⟨by decide, by decide⟩, by grind⟩
  · exact show ((-1000000 : Int) ≤ (R0 - R2 * p) ∧ (R0 - R2 * p) ≤ (1000000 : Int)) ∧ ((-1 : Int) * ((R0 - R2) * (-1) - (-1 + p) * (-R2)) = 1 * (R0 - R2 * p)) from ⟨⟨by omega, by omega⟩, by grind⟩
  · exact show ((-1000000 : Int) ≤ (-1) ∧ (-1) ≤ (1000000 : Int)) ∧ ((-1 : Int) = (-1 : Int) * 1) from ⟨⟨by decide, by decide⟩, by decide⟩
  · exact show ((-1000000 : Int) ≤ 1 ∧ 1 ≤ (1000000 : Int)) ∧ ((1 : Int) = (-1 : Int) * (-1)) from ⟨⟨by decide, by decide⟩, by decide⟩
  · exact show ((-1000000 : Int) ≤ 0 ∧ 0 ≤ (1000000 : Int)) ∧ ((0 : Int) = (-1 : Int) * 0) from ⟨⟨by decide, by decide⟩, by decide⟩
  · exact show ((-1000000 : Int) ≤ 0 ∧ 0 ≤ (1000000 : Int)) ∧ ((0 : Int) = (-1 : Int) * 0) from ⟨⟨by decide, by decide⟩, by decide⟩
  · exact show ((-1000000 : Int) ≤ R2 ∧ R2 ≤ (1000000 : Int)) ∧ ((R2 : Int) = (-1 : Int) * (-R2)) from ⟨⟨by omega, by omega⟩, by grind⟩
  · exact show ((-1000000 : Int) ≤ 0 ∧ 0 ≤ (1000000 : Int)) ∧ ((0 : Int) = -((-1 : Int) * 0)) from ⟨⟨by decide, by decide⟩, by decide⟩
  · exact show ((-1000000 : Int) ≤ 1 ∧ 1 ≤ (1000000 : Int)) ∧ ((-1 : Int) * (1 * (-1) - 0 * (-1)) = 1 * 1) from ⟨⟨by decide, by decide⟩, by decide⟩
  · exact show ((-1000000 : Int) ≤ 0 ∧ 0 ≤ (1000000 : Int)) ∧ ((-1 : Int) * (0 * (-1) - 0 * 0) = 1 * 0) from ⟨⟨by decide, by decide⟩, by decide⟩
  · exact show ((-1000000 : Int) ≤ (-1) ∧ (-1) ≤ (1000000 : Int)) ∧ ((-1 : Int) * ((-1) * (-1) - 0 * 0) = 1 * (-1)) from ⟨⟨by decide, by decide⟩, by decide⟩
  · exact show ((-1000000 : Int) ≤ (-R1 + R2) ∧ (-R1 + R2) ≤ (1000000 : Int)) ∧ ((-1 : Int) * ((-R1 + R2) * (-1) - 0 * (-R2)) = 1 * (-R1 + R2)) from ⟨⟨by omega, by omega⟩, by grind⟩
  · exact show ((-1000000 : Int) ≤ (-1) ∧ (-1) ≤ (1000000 : Int)) ∧ ((-1 : Int) = -((-1 : Int) * (-1))) from ⟨⟨by decide, by decide⟩, by decide⟩
  · exact show ((-1000000 : Int) ≤ (-1) ∧ (-1) ≤ (1000000 : Int)) ∧ ((-1 : Int) * ((-2) * (-1) - (-1) * (-1)) = 1 * (-1)) from ⟨⟨by decide, by decide⟩, by decide⟩
  · exact show ((-1000000 : Int) ≤ 0 ∧ 0 ≤ (1000000 : Int)) ∧ ((-1 : Int) * (0 * (-1) - (-1) * 0) = 1 * 0) from ⟨⟨by decide, by decide⟩, by decide⟩
  · exact show ((-1000000 : Int) ≤ 1 ∧ 1 ≤ (1000000 : Int)) ∧ ((-1 : Int) * (1 * (-1) - (-1) * 0) = 1 * 1) from ⟨⟨by decide, by decide⟩, by decide⟩
  · exact show ((-1000000 : Int) ≤ (R1 - R2 + R3) ∧ (R1 - R2 + R3) ≤ (1000000 : Int)) ∧ ((-1 : Int) * ((R1 - 2 * R2 + R3) * (-1) - (-1) * (-R2)) = 1 * (R1 - R2 + R3)) from ⟨⟨by omega, by omega⟩, by grind⟩
  · exact show ((-1000000 : Int) ≤ (-1) ∧ (-1) ≤ (1000000 : Int)) ∧ ((-1 : Int) = -((-1 : Int) * (-1))) from ⟨⟨by decide, by decide⟩, by decide⟩
  · exact show ((-1000000 : Int) ≤ 0 ∧ 0 ≤ (1000000 : Int)) ∧ ((-1 : Int) * ((-1) * (-1) - (-1) * (-1)) = 1 * 0) from ⟨⟨by decide, by decide⟩, by decide⟩
  · exact show ((-1000000 : Int) ≤ 1 ∧ 1 ≤ (1000000 : Int)) ∧ ((-1 : Int) * (1 * (-1) - (-1) * 0) = 1 * 1) from ⟨⟨by decide, by decide⟩, by decide⟩
  · exact show ((-1000000 : Int) ≤ 0 ∧ 0 ≤ (1000000 : Int)) ∧ ((-1 : Int) * (0 * (-1) - (-1) * 0) = 1 * 0) from ⟨⟨by decide, by decide⟩, by decide⟩
  · exact show ((-1000000 : Int) ≤ R4 ∧ R4 ≤ (1000000 : Int)) ∧ ((-1 : Int) * ((-R2 + R4) * (-1) - (-1) * (-R2)) = 1 * R4) from ⟨⟨by omega, by omega⟩, by grind⟩
  · exact show ((-1000000 : Int) ≤ (-c) ∧ (-c) ≤ (1000000 : Int)) ∧ ((-c : Int) = -((-1 : Int) * (-c))) from ⟨⟨by omega, by omega⟩, by grind⟩
  · exact show ((-1000000 : Int) ≤ (-1 + c) ∧ (-1 + c) ≤ (1000000 : Int)) ∧ ((-1 : Int) * ((-1) * (-1) - (-c) * (-1)) = 1 * (-1 + c)) from ⟨⟨by omega, by omega⟩, by grind⟩
  · exact show ((-1000000 : Int) ≤ 0 ∧ 0 ≤ (1000000 : Int)) ∧ ((-1 : Int) * (0 * (-1) - (-c) * 0) = 1 * 0) from ⟨⟨by decide, by decide⟩, by grind⟩
  · exact show ((-1000000 : Int) ≤ 1 ∧ 1 ≤ (1000000 : Int)) ∧ ((-1 : Int) * (1 * (-1) - (-c) * 0) = 1 * 1) from ⟨⟨by decide, by decide⟩, by grind⟩
  · exact show ((-1000000 : Int) ≤ (R1 - R2 + W0 + R2 * c) ∧ (R1 - R2 + W0 + R2 * c) ≤ (1000000 : Int)) ∧ ((-1 : Int) * ((R1 - R2 + W0) * (-1) - (-c) * (-R2)) = 1 * (R1 - R2 + W0 + R2 * c)) from ⟨⟨by omega, by omega⟩, by grind⟩
  · exact show ((-1000000 : Int) ≤ 1 ∧ 1 ≤ (1000000 : Int)) ∧ ((1 : Int) = -((-1 : Int) * 1)) from ⟨⟨by decide, by decide⟩, by decide⟩
  · exact show ((-1000000 : Int) ≤ (-1) ∧ (-1) ≤ (1000000 : Int)) ∧ ((-1 : Int) * (0 * (-1) - 1 * (-1)) = 1 * (-1)) from ⟨⟨by decide, by decide⟩, by decide⟩
  · exact show ((-1000000 : Int) ≤ 0 ∧ 0 ≤ (1000000 : Int)) ∧ ((-1 : Int) * (0 * (-1) - 1 * 0) = 1 * 0) from ⟨⟨by decide, by decide⟩, by decide⟩
  · exact show ((-1000000 : Int) ≤ 0 ∧ 0 ≤ (1000000 : Int)) ∧ ((-1 : Int) * (0 * (-1) - 1 * 0) = 1 * 0) from ⟨⟨by decide, by decide⟩, by decide⟩
  · exact show ((-1000000 : Int) ≤ (-R2 + W1) ∧ (-R2 + W1) ≤ (1000000 : Int)) ∧ ((-1 : Int) * (W1 * (-1) - 1 * (-R2)) = 1 * (-R2 + W1)) from ⟨⟨by omega, by omega⟩, by grind⟩
  · exact show ((-1000000 : Int) ≤ 0 ∧ 0 ≤ (1000000 : Int)) ∧ ((0 : Int) = -((-1 : Int) * 0)) from ⟨⟨by decide, by decide⟩, by decide⟩
  · exact show ((-1000000 : Int) ≤ (-1) ∧ (-1) ≤ (1000000 : Int)) ∧ ((-1 : Int) * ((-1) * (-1) - 0 * (-1)) = 1 * (-1)) from ⟨⟨by decide, by decide⟩, by decide⟩
  · exact show ((-1000000 : Int) ≤ 0 ∧ 0 ≤ (1000000 : Int)) ∧ ((-1 : Int) * (0 * (-1) - 0 * 0) = 1 * 0) from ⟨⟨by decide, by decide⟩, by decide⟩
  · exact show ((-1000000 : Int) ≤ 1 ∧ 1 ≤ (1000000 : Int)) ∧ ((-1 : Int) * (1 * (-1) - 0 * 0) = 1 * 1) from ⟨⟨by decide, by decide⟩, by decide⟩
  · exact show ((-1000000 : Int) ≤ (R1 - R2 + W2) ∧ (R1 - R2 + W2) ≤ (1000000 : Int)) ∧ ((-1 : Int) * ((R1 - R2 + W2) * (-1) - 0 * (-R2)) = 1 * (R1 - R2 + W2)) from ⟨⟨by omega, by omega⟩, by grind⟩
  · exact show ((-1000000 : Int) ≤ 0 ∧ 0 ≤ (1000000 : Int)) ∧ ((0 : Int) = -((-1 : Int) * 0)) from ⟨⟨by decide, by decide⟩, by decide⟩
  · exact show ((-1000000 : Int) ≤ 0 ∧ 0 ≤ (1000000 : Int)) ∧ ((-1 : Int) * (0 * (-1) - 0 * (-1)) = 1 * 0) from ⟨⟨by decide, by decide⟩, by decide⟩
  · exact show ((-1000000 : Int) ≤ 1 ∧ 1 ≤ (1000000 : Int)) ∧ ((-1 : Int) * (1 * (-1) - 0 * 0) = 1 * 1) from ⟨⟨by decide, by decide⟩, by decide⟩
  · exact show ((-1000000 : Int) ≤ 0 ∧ 0 ≤ (1000000 : Int)) ∧ ((-1 : Int) * (0 * (-1) - 0 * 0) = 1 * 0) from ⟨⟨by decide, by decide⟩, by decide⟩
  · exact show ((-1000000 : Int) ≤ W3 ∧ W3 ≤ (1000000 : Int)) ∧ ((-1 : Int) * (W3 * (-1) - 0 * (-R2)) = 1 * W3) from ⟨⟨by omega, by omega⟩, by grind⟩
  · exact show ((-1000000 : Int) ≤ 1 ∧ 1 ≤ (1000000 : Int)) ∧ ((1 : Int) = -((-1 : Int) * 1)) from ⟨⟨by decide, by decide⟩, by decide⟩
  · exact show ((-1000000 : Int) ≤ 0 ∧ 0 ≤ (1000000 : Int)) ∧ ((-1 : Int) * (1 * (-1) - 1 * (-1)) = 1 * 0) from ⟨⟨by decide, by decide⟩, by decide⟩
  · exact show ((-1000000 : Int) ≤ 0 ∧ 0 ≤ (1000000 : Int)) ∧ ((-1 : Int) * (0 * (-1) - 1 * 0) = 1 * 0) from ⟨⟨by decide, by decide⟩, by decide⟩
  · exact show ((-1000000 : Int) ≤ 0 ∧ 0 ≤ (1000000 : Int)) ∧ ((-1 : Int) * (0 * (-1) - 1 * 0) = 1 * 0) from ⟨⟨by decide, by decide⟩, by decide⟩
  · exact show ((-1000000 : Int) ≤ 0 ∧ 0 ≤ (1000000 : Int)) ∧ ((-1 : Int) * (R2 * (-1) - 1 * (-R2)) = 1 * 0) from ⟨⟨by decide, by decide⟩, by grind⟩
def ap_ME0 (p c R0 R1 R2 R3 R4 W0 W1 W2 W3 : Int) : List (List Int) := [[-1 + p, 1, 0, -p, R0 - R1 * p], [-1, 1, 0, 0, R0], [1 - p, -1, 0, 0, -R0 + R2 * p], [1 - 2 * p, -1, 0, p, -R0 + R1 * p + R3 * p], [-p, 0, p, 0, R4 * p], [1 - c - p, -1 + c, 0, p, -R0 + R0 * c + R1 * p + W0 * p], [1, -1, 0, 0, -R0 + W1 * p], [1 - p, -1, 0, p, -R0 + R1 * p + W2 * p], [0, 0, p, 0, W3 * p], [p, 0, 0, 0, 0]]
theorem ap_cE0 {p c R0 R1 R2 R3 R4 W0 W1 W2 W3 : Int} (h : ap_bd p c R0 R1 R2 R3 R4 W0 W1 W2 W3) : ∀ r c', r < 10 → c' < 5 → ap_s (ap_at (ap_ME0 p c R0 R1 R2 R3 R4 W0 W1 W2 W3) r c') ∧ ap_cert (ap_MB0 p c R0 R1 R2 R3 R4 W0 W1 W2 W3) (ap_ME0 p c R0 R1 R2 R3 R4 W0 W1 W2 W3) 1 (-1) 1 0 4 r c' := by
  obtain ⟨hp, hc, hR0, hR1, hR2, hR3, hR4, hW0, hW1, hW2, hW3, q1, q2, q3, q4, q5, q6, q7, q8, q9, q10, q11, q12⟩ := h
  refine ap_rc10 (ap_c5 ?_ ?_ ?_ ?_ ?_) (ap_c5 ?_ ?_ ?_ ?_ ?_) (ap_c5 ?_ ?_ ?_ ?_ ?_) (ap_c5 ?_ ?_ ?_ ?_ ?_) (ap_c5 ?_ ?_ ?_ ?_ ?_) (ap_c5 ?_ ?_ ?_ ?_ ?_) (ap_c5 ?_ ?_ ?_ ?_ ?_) (ap_c5 ?_ ?_ ?_ ?_ ?_) (ap_c5 ?_ ?_ ?_ ?_ ?_) (ap_c5 ?_ ?_ ?_ ?_ ?_)
  · exact show ((-1000000 : Int) ≤ (-1 + p) ∧ (-1 + p) ≤ (1000000 : Int)) ∧ ((-1 + p : Int) = -((-1 : Int) * (-1 + p))) from ⟨⟨by omega, by omega⟩, by grind⟩
  · exact show ((-1000000 : Int) ≤ 1 ∧ 1 ≤ (1000000 : Int)) ∧ ((-1 : Int) * (1 * (-p) - (-1 + p) * (-1)) = 1 * 1) from ⟨⟨by decide, by decide⟩, by grind⟩
  · exact show ((-1000000 : Int) ≤ 0 ∧ 0 ≤ (1000000 : Int)) ∧ ((-1 : Int) * (0 * (-p) - (-1 + p) * 0) = 1 * 0) from ⟨⟨by decide, by decide⟩, by grind⟩
  · exact show ((-1000000 : Int) ≤ (-p) ∧ (-p) ≤ (1000000 : Int)) ∧ ((-1 : Int) * ((-1) * (-p) - (-1 + p) * 0) = 1 * (-p)) from ⟨⟨by omega, by omega⟩, by grind⟩
  · exact show ((-1000000 : Int) ≤ (R0 - R1 * p) ∧ (R0 - R1 * p) ≤ (1000000 : Int)) ∧ ((-1 : Int) * ((R0 - R1) * (-p) - (-1 + p) * (-R0)) = 1 * (R0 - R1 * p)) from ⟨⟨by omega, by omega⟩, by grind⟩
  · exact show ((-1000000 : Int) ≤ (-1) ∧ (-1) ≤ (1000000 : Int)) ∧ ((-1 : Int) = (-1 : Int) * 1) from ⟨⟨by decide, by decide⟩, by grind⟩
  · exact show ((-1000000 : Int) ≤ 1 ∧ 1 ≤ (1000000 : Int)) ∧ ((1 : Int) = (-1 : Int) * (-1)) from ⟨⟨by decide, by decide⟩, by grind⟩
  · exact show ((-1000000 : Int) ≤ 0 ∧ 0 ≤ (1000000 : Int)) ∧ ((0 : Int) = (-1 : Int) * 0) from ⟨⟨by decide, by decide⟩, by grind⟩
  · exact show ((-1000000 : Int) ≤ 0 ∧ 0 ≤ (1000000 : Int)) ∧ ((0 : Int) = (-1 : Int) * 0) from ⟨⟨by decide, by decide⟩, by grind⟩
  · exact show ((-1000000 : Int) ≤ R0 ∧ R0 ≤ (1000000 : Int)) ∧ ((R0 : Int) = (-1 : Int) * (-R0)) from ⟨⟨by omega, by omega⟩, by grind⟩
  · exact show ((-1000000 : Int) ≤ (1 - p) ∧ (1 - p) ≤ (1000000 : Int)) ∧ ((1 - p : Int) = -((-1 : Int) * (1 - p))) from ⟨⟨by omega, by omega⟩, by grind⟩
  · exact show ((-1000000 : Int) ≤ (-1) ∧ (-1) ≤ (1000000 : Int)) ∧ ((-1 : Int) * ((-1) * (-p) - (1 - p) * (-1)) = 1 * (-1)) from ⟨⟨by decide, by decide⟩, by grind⟩
  · exact show ((-1000000 : Int) ≤ 0 ∧ 0 ≤ (1000000 : Int)) ∧ ((-1 : Int) * (0 * (-p) - (1 - p) * 0) = 1 * 0) from ⟨⟨by decide, by decide⟩, by grind⟩
  · exact show ((-1000000 : Int) ≤ 0 ∧ 0 ≤ (1000000 : Int)) ∧ ((-1 : Int) * (0 * (-p) - (1 - p) * 0) = 1 * 0) from ⟨⟨by decide, by decide⟩, by grind⟩
  · exact show ((-1000000 : Int) ≤ (-R0 + R2 * p) ∧ (-R0 + R2 * p) ≤ (1000000 : Int)) ∧ ((-1 : Int) * ((-R0 + R2) * (-p) - (1 - p) * (-R0)) = 1 * (-R0 + R2 * p)) from ⟨⟨by omega, by omega⟩, by grind⟩
  · exact show ((-1000000 : Int) ≤ (1 - 2 * p) ∧ (1 - 2 * p) ≤ (1000000 : Int)) ∧ ((1 - 2 * p : Int) = -((-1 : Int) * (1 - 2 * p))) from ⟨⟨by omega, by omega⟩, by grind⟩
  · exact show ((-1000000 : Int) ≤ (-1) ∧ (-1) ≤ (1000000 : Int)) ∧ ((-1 : Int) * ((-2) * (-p) - (1 - 2 * p) * (-1)) = 1 * (-1)) from ⟨⟨by decide, by decide⟩, by grind⟩
  · exact show ((-1000000 : Int) ≤ 0 ∧ 0 ≤ (1000000 : Int)) ∧ ((-1 : Int) * (0 * (-p) - (1 - 2 * p) * 0) = 1 * 0) from ⟨⟨by decide, by decide⟩, by grind⟩
  · exact show ((-1000000 : Int) ≤ p ∧ p ≤ (1000000 : Int)) ∧ ((-1 : Int) * (1 * (-p) - (1 - 2 * p) * 0) = 1 * p) from ⟨⟨by omega, by omega⟩, by grind⟩
  · exact show ((-1000000 : Int) ≤ (-R0 + R1 * p + R3 * p) ∧ (-R0 + R1 * p + R3 * p) ≤ (1000000 : Int)) ∧ ((-1 : Int) * ((-(2 * R0) + R1 + R3) * (-p) - (1 - 2 * p) * (-R0)) = 1 * (-R0 + R1 * p + R3 * p)) from ⟨⟨by omega, by omega⟩, by grind⟩
  · exact show ((-1000000 : Int) ≤ (-p) ∧ (-p) ≤ (1000000 : Int)) ∧ ((-p : Int) = -((-1 : Int) * (-p))) from ⟨⟨by omega, by omega⟩, by grind⟩
  · exact show ((-1000000 : Int) ≤ 0 ∧ 0 ≤ (1000000 : Int)) ∧ ((-1 : Int) * ((-1) * (-p) - (-p) * (-1)) = 1 * 0) from ⟨⟨by decide, by decide⟩, by grind⟩
  · exact show ((-1000000 : Int) ≤ p ∧ p ≤ (1000000 : Int)) ∧ ((-1 : Int) * (1 * (-p) - (-p) * 0) = 1 * p) from ⟨⟨by omega, by omega⟩, by grind⟩
  · exact show ((-1000000 : Int) ≤ 0 ∧ 0 ≤ (1000000 : Int)) ∧ ((-1 : Int) * (0 * (-p) - (-p) * 0) = 1 * 0) from ⟨⟨by decide, by decide⟩, by grind⟩
  · exact show ((-1000000 : Int) ≤ (R4 * p) ∧ (R4 * p) ≤ (1000000 : Int)) ∧ ((-1 : Int) * ((-R0 + R4) * (-p) - (-p) * (-R0)) = 1 * (R4 * p)) from ⟨⟨by omega, by omega⟩, by grind⟩
  · exact show ((-1000000 : Int) ≤ (1 - c - p) ∧ (1 - c - p) ≤ (1000000 : Int)) ∧ ((1 - c - p : Int) = -((-1 : Int) * (1 - c - p))) from ⟨⟨by omega, by omega⟩, by grind⟩
  · exact show ((-1000000 : Int) ≤ (-1 + c) ∧ (-1 + c) ≤ (1000000 : Int)) ∧ ((-1 : Int) * ((-1) * (-p) - (1 - c - p) * (-1)) = 1 * (-1 + c)) from ⟨⟨by omega, by omega⟩, by grind⟩
  · exact show ((-1000000 : Int) ≤ 0 ∧ 0 ≤ (1000000 : Int)) ∧ ((-1 : Int) * (0 * (-p) - (1 - c - p) * 0) = 1 * 0) from ⟨⟨by decide, by decide⟩, by grind⟩
  · exact show ((-1000000 : Int) ≤ p ∧ p ≤ (1000000 : Int)) ∧ ((-1 : Int) * (1 * (-p) - (1 - c - p) * 0) = 1 * p) from ⟨⟨by omega, by omega⟩, by grind⟩
  · exact show ((-1000000 : Int) ≤ (-R0 + R0 * c + R1 * p + W0 * p) ∧ (-R0 + R0 * c + R1 * p + W0 * p) ≤ (1000000 : Int)) ∧ ((-1 : Int) * ((-R0 + R1 + W0) * (-p) - (1 - c - p) * (-R0)) = 1 * (-R0 + R0 * c + R1 * p + W0 * p)) from ⟨⟨by omega, by omega⟩, by grind⟩
  · exact show ((-1000000 : Int) ≤ 1 ∧ 1 ≤ (1000000 : Int)) ∧ ((1 : Int) = -((-1 : Int) * 1)) from ⟨⟨by decide, by decide⟩, by grind⟩
  · exact show ((-1000000 : Int) ≤ (-1) ∧ (-1) ≤ (1000000 : Int)) ∧ ((-1 : Int) * (0 * (-p) - 1 * (-1)) = 1 * (-1)) from ⟨⟨by decide, by decide⟩, by grind⟩
  · exact show ((-1000000 : Int) ≤ 0 ∧ 0 ≤ (1000000 : Int)) ∧ ((-1 : Int) * (0 * (-p) - 1 * 0) = 1 * 0) from ⟨⟨by decide, by decide⟩, by grind⟩
  · exact show ((-1000000 : Int) ≤ 0 ∧ 0 ≤ (1000000 : Int)) ∧ ((-1 : Int) * (0 * (-p) - 1 * 0) = 1 * 0) from ⟨⟨by decide, by decide⟩, by grind⟩
  · exact show ((-1000000 : Int) ≤ (-R0 + W1 * p) ∧ (-R0 + W1 * p) ≤ (1000000 : Int)) ∧ ((-1 : Int) * (W1 * (-p) - 1 * (-R0)) = 1 * (-R0 + W1 * p)) from ⟨⟨by omega, by omega⟩, by grind⟩
  · exact show ((-1000000 : Int) ≤ (1 - p) ∧ (1 - p) ≤ (1000000 : Int)) ∧ ((1 - p : Int) = -((-1 : Int) * (1 - p))) from ⟨⟨by omega, by omega⟩, by grind⟩
  · exact show ((-1000000 : Int) ≤ (-1) ∧ (-1) ≤ (1000000 : Int)) ∧ ((-1 : Int) * ((-1) * (-p) - (1 - p) * (-1)) = 1 * (-1)) from ⟨⟨by decide, by decide⟩, by grind⟩
  · exact show ((-1000000 : Int) ≤ 0 ∧ 0 ≤ (1000000 : Int)) ∧ ((-1 : Int) * (0 * (-p) - (1 - p) * 0) = 1 * 0) from ⟨⟨by decide, by decide⟩, by grind⟩
  · exact show ((-1000000 : Int) ≤ p ∧ p ≤ (1000000 : Int)) ∧ ((-1 : Int) * (1 * (-p) - (1 - p) * 0) = 1 * p) from ⟨⟨by omega, by omega⟩, by grind⟩
  · exact show ((-1000000 : Int) ≤ (-R0 + R1 * p + W2 * p) ∧ (-R0 + R1 * p + W2 * p) ≤ (1000000 : Int)) ∧ ((-1 : Int) * ((-R0 + R1 + W2) * (-p) - (1 - p) * (-R0)) = 1 * (-R0 + R1 * p + W2 * p)) from ⟨⟨by omega, by omega⟩, by grind⟩
  · exact show ((-1000000 : Int) ≤ 0 ∧ 0 ≤ (1000000 : Int)) ∧ ((0 : Int) = -((-1 : Int) * 0)) from ⟨⟨by decide, by decide⟩, by grind⟩
  · exact show ((-1000000 : Int) ≤ 0 ∧ 0 ≤ (1000000 : Int)) ∧ ((-1 : Int) * (0 * (-p) - 0 * (-1)) = 1 * 0) from ⟨⟨by decide, by decide⟩, by grind⟩
  · exact show ((-1000000 : Int) ≤ p ∧ p ≤ (1000000 : Int)) ∧ ((-1 : Int) * (1 * (-p) - 0 * 0) = 1 * p) from ⟨⟨by omega, by omega⟩, by grind⟩
  · exact show ((-1000000 : Int) ≤ 0 ∧ 0 ≤ (1000000 : Int)) ∧ ((-1 : Int) * (0 * (-p) - 0 * 0) = 1 * 0) from ⟨⟨by decide, by decide⟩, by grind⟩
  · exact show ((-1000000 : Int) ≤ (W3 * p) ∧ (W3 * p) ≤ (1000000 : Int)) ∧ ((-1 : Int) * (W3 * (-p) - 0 * (-R0)) = 1 * (W3 * p)) from ⟨⟨by omega, by omega⟩, by grind⟩
  · exact show ((-1000000 : Int) ≤ p ∧ p ≤ (1000000 : Int)) ∧ ((p : Int) = -((-1 : Int) * p)) from ⟨⟨by omega, by omega⟩, by grind⟩
  · exact show ((-1000000 : Int) ≤ 0 ∧ 0 ≤ (1000000 : Int)) ∧ ((-1 : Int) * (1 * (-p) - p * (-1)) = 1 * 0) from ⟨⟨by decide, by decide⟩, by grind⟩
  · exact show ((-1000000 : Int) ≤ 0 ∧ 0 ≤ (1000000 : Int)) ∧ ((-1 : Int) * (0 * (-p) - p * 0) = 1 * 0) from ⟨⟨by decide, by decide⟩, by grind⟩
  · exact show ((-1000000 : Int) ≤ 0 ∧ 0 ≤ (1000000 : Int)) ∧ ((-1 : Int) * (0 * (-p) - p * 0) = 1 * 0) from ⟨⟨by decide, by decide⟩, by grind⟩
  · exact show ((-1000000 : Int) ≤ 0 ∧ 0 ≤ (1000000 : Int)) ∧ ((-1 : Int) * (R0 * (-p) - p * (-R0)) = 1 * 0) from ⟨⟨by decide, by decide⟩, by grind⟩
def ap_MB03 (p c R0 R1 R2 R3 R4 W0 W1 W2 W3 : Int) : List (List Int) := [[-p, 0, 0, -1, -R0], [1 - p, -1, 0, -1, -R0 + R1], [1 - p, 0, 0, -1, -R0 + R2], [-p, 1, 0, -1, -R0 + R3], [-p, 0, 1, -1, -R0 + R4], [-c, 1, 0, 0, W0], [1, 0, 0, 0, W1], [0, 1, 0, 0, W2], [0, 0, 1, 0, W3], [p, 0, 0, 1, R0]]
theorem ap_cB03 {p c R0 R1 R2 R3 R4 W0 W1 W2 W3 : Int} (h : ap_bd p c R0 R1 R2 R3 R4 W0 W1 W2 W3) : ∀ r c', r < 10 → c' < 5 → ap_s (ap_at (ap_MB03 p c R0 R1 R2 R3 R4 W0 W1 W2 W3) r c') ∧ ap_cert (ap_MB p c R0 R1 R2 R3 R4 W0 W1 W2 W3) (ap_MB03 p c R0 R1 R2 R3 R4 W0 W1 W2 W3) 1 (-1) 0 3 4 r c' := by
  obtain ⟨hp, hc, hR0, hR1, hR2, hR3, hR4, hW0, hW1, hW2, hW3, q1, q2, q3, q4, q5, q6, q7, q8, q9, q10, q11, q12⟩ := h
  refine ap_rc10 (ap_c5 ?_ ?_ ?_ ?_ ?_) (ap_c5 ?_ ?_ ?_ ?_ ?_) (ap_c5 ?_ ?_ ?_ ?_ ?_) (ap_c5 ?_ ?_ ?_ ?_ ?_) (ap_c5 ?_ ?_ ?_ ?_ ?_) (ap_c5 ?_ ?_ ?_ ?_ ?_) (ap_c5 ?_ ?_ ?_ ?_ ?_) (ap_c5 ?_ ?_ ?_ ?_ ?_) (ap_c5 ?_ ?_ ?_ ?_ ?_) (ap_c5 ?_ ?_ ?_ ?_ ?_)
  · exact show ((-1000000 : Int) ≤ (-p) ∧ (-p) ≤ (1000000 : Int)) ∧ ((-p : Int) = (-1 : Int) * p) from ⟨⟨by omega, by omega⟩, by grind⟩
  · exact show ((-1000000 : Int) ≤ 0 ∧ 0 ≤ (1000000 : Int)) ∧ ((0 : Int) = (-1 : Int) * 0) from ⟨⟨by decide, by decide⟩, by decide⟩
  · exact show ((-1000000 : Int) ≤ 0 ∧ 0 ≤ (1000000 : Int)) ∧ ((0 : Int) = (-1 : Int) * 0) from ⟨⟨by decide, by decide⟩, by decide⟩
  · exact show ((-1000000 : Int) ≤ (-1) ∧ (-1) ≤ (1000000 : Int)) ∧ ((-1 : Int) = (-1 : Int) * 1) from ⟨⟨by decide, by decide⟩, by decide⟩
  · exact show ((-1000000 : Int) ≤ (-R0) ∧ (-R0) ≤ (1000000 : Int)) ∧ ((-R0 : Int) = (-1 : Int) * R0) from ⟨⟨by omega, by omega⟩, by grind⟩
  · exact show ((-1000000 : Int) ≤ (1 - p) ∧ (1 - p) ≤ (1000000 : Int)) ∧ ((-1 : Int) * (1 * (-1) - (-1) * p) = 1 * (1 - p)) from ⟨⟨by omega, by omega⟩, by grind⟩
  · exact show ((-1000000 : Int) ≤ (-1) ∧ (-1) ≤ (1000000 : Int)) ∧ ((-1 : Int) * ((-1) * (-1) - (-1) * 0) = 1 * (-1)) from ⟨⟨by decide, by decide⟩, by decide⟩
  · exact show ((-1000000 : Int) ≤ 0 ∧ 0 ≤ (1000000 : Int)) ∧ ((-1 : Int) * (0 * (-1) - (-1) * 0) = 1 * 0) from ⟨⟨by decide, by decide⟩, by decide⟩
  · exact show ((-1000000 : Int) ≤ (-1) ∧ (-1) ≤ (1000000 : Int)) ∧ ((-1 : Int) = -((-1 : Int) * (-1))) from ⟨⟨by decide, by decide⟩, by decide⟩
  · exact show ((-1000000 : Int) ≤ (-R0 + R1) ∧ (-R0 + R1) ≤ (1000000 : Int)) ∧ ((-1 : Int) * (R1 * (-1) - (-1) * R0) = 1 * (-R0 + R1)) from ⟨⟨by omega, by omega⟩, by grind⟩
  · exact show ((-1000000 : Int) ≤ (1 - p) ∧ (1 - p) ≤ (1000000 : Int)) ∧ ((-1 : Int) * (1 * (-1) - (-1) * p) = 1 * (1 - p)) from ⟨⟨by omega, by omega⟩, by grind⟩
  · exact show ((-1000000 : Int) ≤ 0 ∧ 0 ≤ (1000000 : Int)) ∧ ((-1 : Int) * (0 * (-1) - (-1) * 0) = 1 * 0) from ⟨⟨by decide, by decide⟩, by decide⟩
  · exact show ((-1000000 : Int) ≤ 0 ∧ 0 ≤ (1000000 : Int)) ∧ ((-1 : Int) * (0 * (-1) - (-1) * 0) = 1 * 0) from ⟨⟨by decide, by decide⟩, by decide⟩
  · exact show ((-1000000 : Int) ≤ (-1) ∧ (-1) ≤ (1000000 : Int)) ∧ ((-1 : Int) = -((-1 : Int) * (-1))) from ⟨⟨by decide, by decide⟩, by decide⟩
  · exact show ((-1000000 : Int) ≤ (-R0 + R2) ∧ (-R0 + R2) ≤ (1000000 : Int)) ∧ ((-1 : Int) * (R2 * (-1) - (-1) * R0) = 1 * (-R0 + R2)) from ⟨⟨by omega, by omega⟩, by grind⟩
  · exact show ((-1000000 : Int) ≤ (-p) ∧ (-p) ≤ (1000000 : Int)) ∧ ((-1 : Int) * (0 * (-1) - (-1) * p) = 1 * (-p)) from ⟨⟨by omega, by omega⟩, by grind⟩
  · exact show ((-1000000 : Int) ≤ 1 ∧ 1 ≤ (1000000 : Int)) ∧ ((-1 : Int) * (1 * (-1) - (-1) * 0) = 1 * 1) from ⟨⟨by decide, by decide⟩, by decide⟩
  · exact show ((-1000000 : Int) ≤ 0 ∧ 0 ≤ (1000000 : Int)) ∧ ((-1 : Int) * (0 * (-1) - (-1) * 0) = 1 * 0) from ⟨⟨by decide, by decide⟩, by decide⟩
  · exact show ((-1000000 : Int) ≤ (-1) ∧ (-1) ≤ (1000000 : Int)) ∧ ((-1 : Int) = -((-1 : Int) * (-1))) from ⟨⟨by decide, by decide⟩, by decide⟩
  · exact show ((-1000000 : Int) ≤ (-R0 + R3) ∧ (-R0 + R3) ≤ (1000000 : Int)) ∧ ((-1 : Int) * (R3 * (-1) - (-1) * R0) = 1 * (-R0 + R3)) from ⟨⟨by omega, by omega⟩, by grind⟩
  · exact show ((-1000000 : Int) ≤ (-p) ∧ (-p) ≤ (1000000 : Int)) ∧ ((-1 : Int) * (0 * (-1) - (-1) * p) = 1 * (-p)) from ⟨⟨by omega, by omega⟩, by grind⟩
  · exact show ((-1000000 : Int) ≤ 0 ∧ 0 ≤ (1000000 : Int)) ∧ ((-1 : Int) * (0 * (-1) - (-1) * 0) = 1 * 0) from ⟨⟨by decide, by decide⟩, by decide⟩
  · exact show ((-1000000 : Int) ≤ 1 ∧ 1 ≤ (1000000 : Int)) ∧ ((-1 : Int) * (1 * (-1) - (-1) * 0) = 1 * 1) from ⟨⟨by decide, by decide⟩, by decide⟩
  · exact show ((-1000000 : Int) ≤ (-1) ∧ (-1) ≤ (1000000 : Int)) ∧ ((-1 : Int) = -((-1 : Int) * (-1))) from ⟨⟨by decide, by decide⟩, by decide⟩
  · exact show ((-1000000 : Int) ≤ (-R0 + R4) ∧ (-R0 + R4) ≤ (1000000 : Int)) ∧ ((-1 : Int) * (R4 * (-1) - (-1) * R0) = 1 * (-R0 + R4)) from ⟨⟨by omega, by omega⟩, by grind⟩
  · exact show ((-1000000 : Int) ≤ (-c) ∧ (-c) ≤ (1000000 : Int)) ∧ ((-1 : Int) * ((-c) * (-1) - 0 * p) = 1 * (-c)) from ⟨⟨by omega, by omega⟩, by grind⟩
  · exact show ((-1000000 : Int) ≤ 1 ∧ 1 ≤ (1000000 : Int)) ∧ ((-1 : Int) * (1 * (-1) - 0 * 0) = 1 * 1) from ⟨⟨by decide, by decide⟩, by decide⟩
  · exact show ((-1000000 : Int) ≤ 0 ∧ 0 ≤ (1000000 : Int)) ∧ ((-1 : Int) * (0 * (-1) - 0 * 0) = 1 * 0) from ⟨⟨by decide, by decide⟩, by decide⟩
  · exact show ((-1000000 : Int) ≤ 0 ∧ 0 ≤ (1000000 : Int)) ∧ ((0 : Int) = -((-1 : Int) * 0)) from ⟨⟨by decide, by decide⟩, by decide⟩
  · exact show ((-1000000 : Int) ≤ W0 ∧ W0 ≤ (1000000 : Int)) ∧ ((-1 : Int) * (W0 * (-1) - 0 * R0) = 1 * W0) from ⟨⟨by omega, by omega⟩, by grind⟩
  · exact show ((-1000000 : Int) ≤ 1 ∧ 1 ≤ (1000000 : Int)) ∧ ((-1 : Int) * (1 * (-1) - 0 * p) = 1 * 1) from ⟨⟨by decide, by decide⟩, by grind⟩
  · exact show ((-1000000 : Int) ≤ 0 ∧ 0 ≤ (1000000 : Int)) ∧ ((-1 : Int) * (0 * (-1) - 0 * 0) = 1 * 0) from ⟨⟨by decide, by decide⟩, by decide⟩
  · exact show ((-1000000 : Int) ≤ 0 ∧ 0 ≤ (1000000 : Int)) ∧ ((-1 : Int) * (0 * (-1) - 0 * 0) = 1 * 0) from ⟨⟨by decide, by decide⟩, by decide⟩
  · exact show ((-1000000 : Int) ≤ 0 ∧ 0 ≤ (1000000 : Int)) ∧ ((0 : Int) = -((-1 : Int) * 0)) from ⟨⟨by decide, by decide⟩, by decide⟩
  · exact show ((-1000000 : Int) ≤ W1 ∧ W1 ≤ (1000000 : Int)) ∧ ((-1 : Int) * (W1 * (-1) - 0 * R0) = 1 * W1) from ⟨⟨by omega, by omega⟩, by grind⟩
  · exact show ((-1000000 : Int) ≤ 0 ∧ 0 ≤ (1000000 : Int)) ∧ ((-1 : Int) * (0 * (-1) - 0 * p) = 1 * 0) from ⟨⟨by decide, by decide⟩, by grind⟩
  · exact show ((-1000000 : Int) ≤ 1 ∧ 1 ≤ (1000000 : Int)) ∧ ((-1 : Int) * (1 * (-1) - 0 * 0) = 1 * 1) from ⟨⟨by decide, by decide⟩, by decide⟩
  · exact show ((-1000000 : Int) ≤ 0 ∧ 0 ≤ (1000000 : Int)) ∧ ((-1 : Int) * (0 * (-1) - 0 * 0) = 1 * 0) from ⟨⟨by decide, by decide⟩, by decide⟩
  · exact show ((-1000000 : Int) ≤ 0 ∧ 0 ≤ (1000000 : Int)) ∧ ((0 : Int) = -((-1 : Int) * 0)) from ⟨⟨by decide, by decide⟩, by decide⟩
  · exact show ((-1000000 : Int) ≤ W2 ∧ W2 ≤ (1000000 : Int)) ∧ ((-1 : Int) * (W2 * (-1) - 0 * R0) = 1 * W2) from ⟨⟨by omega, by omega⟩, by grind⟩
  · exact show ((-1000000 : Int) ≤ 0 ∧ 0 ≤ (1000000 : Int)) ∧ ((-1 : Int) * (0 * (-1) - 0 * p) = 1 * 0) from ⟨⟨by decide, by decide⟩, by grind⟩
  · exact show ((-1000000 : Int) ≤ 0 ∧ 0 ≤ (1000000 : Int)) ∧ ((-1 : Int) * (0 * (-1) - 0 * 0) = 1 * 0) from ⟨⟨by decide, by decide⟩, by decide⟩
  · exact show ((-1000000 : Int) ≤ 1 ∧ 1 ≤ (1000000 : Int)) ∧ ((-1 : Int) * (1 * (-1) - 0 * 0) = 1 * 1) from ⟨⟨by decide, by decide⟩, by decide⟩
  · exact show ((-1000000 : Int) ≤ 0 ∧ 0 ≤ (1000000 : Int)) ∧ ((0 : Int) = -((-1 : Int) * 0)) from ⟨⟨by decide, by decide⟩, by decide⟩
  · exact show ((-1000000 : Int) ≤ W3 ∧ W3 ≤ (1000000 : Int)) ∧ ((-1 : Int) * (W3 * (-1) - 0 * R0) = 1 * W3) from ⟨⟨by omega, by omega⟩, by grind⟩
  · exact show ((-1000000 : Int) ≤ p ∧ p ≤ (1000000 : Int)) ∧ ((-1 : Int) * (0 * (-1) - 1 * p) = 1 * p) from ⟨⟨by omega, by omega⟩, by grind⟩
  · exact show ((-1000000 : Int) ≤ 0 ∧ 0 ≤ (1000000 : Int)) ∧ ((-1 : Int) * (0 * (-1) - 1 * 0) = 1 * 0) from ⟨⟨by decide, by decide⟩, by decide⟩
  · exact show ((-1000000 : Int) ≤ 0 ∧ 0 ≤ (1000000 : Int)) ∧ ((-1 : Int) * (0 * (-1) - 1 * 0) = 1 * 0) from ⟨⟨by decide, by decide⟩, by decide⟩
  · exact show ((-1000000 : Int) ≤ 1 ∧ 1 ≤ (1000000 : Int)) ∧ ((1 : Int) = -((-1 : Int) * 1)) from ⟨⟨by decide, by decide⟩, by decide⟩
  · exact show ((-1000000 : Int) ≤ R0 ∧ R0 ≤ (1000000 : Int)) ∧ ((-1 : Int) * (0 * (-1) - 1 * R0) = 1 * R0) from ⟨⟨by omega, by omega⟩, by grind⟩
def ap_MD (p c R0 R1 R2 R3 R4 W0 W1 W2 W3 : Int) : List (List Int) := [[-p, 0, 0, 0, R0], [-1, -1, 0, 0, R1], [1, 0, 0, 0, R2], [0, 1, 0, 0, R3], [0, 0, 1, 0, R4], [c, 1, 0, 0, W0], [-1, 0, 0, 0, W1], [0, 1, 0, 0, W2], [0, 0, 1, 0, W3]]
def ap_MD0 (p c R0 R1 R2 R3 R4 W0 W1 W2 W3 : Int) : List (List Int) := [[-1, 0, 0, 0, -R0], [-1, -p, 0, 0, -R0 + R1 * p], [1, 0, 0, 0, R0 + R2 * p], [0, p, 0, 0, R3 * p], [0, 0, p, 0, R4 * p], [c, p, 0, 0, R0 * c + W0 * p], [-1, 0, 0, 0, -R0 + W1 * p], [0, p, 0, 0, W2 * p], [0, 0, p, 0, W3 * p]]
theorem ap_cD0 {p c R0 R1 R2 R3 R4 W0 W1 W2 W3 : Int} (h : ap_bd p c R0 R1 R2 R3 R4 W0 W1 W2 W3) : ∀ r c', r < 9 → c' < 5 → ap_s (ap_at (ap_MD0 p c R0 R1 R2 R3 R4 W0 W1 W2 W3) r c') ∧ ap_cert (ap_MD p c R0 R1 R2 R3 R4 W0 W1 W2 W3) (ap_MD0 p c R0 R1 R2 R3 R4 W0 W1 W2 W3) 1 (-1) 0 0 3 r c' := by
  obtain ⟨hp, hc, hR0, hR1, hR2, hR3, hR4, hW0, hW1, hW2, hW3, q1, q2, q3, q4, q5, q6, q7, q8, q9, q10, q11, q12⟩ := h
  refine ap_rc9 (ap_c5 ?_ ?_ ?_ ?_ ?_) (ap_c5 ?_ ?_ ?_ ?_ ?_) (ap_c5 ?_ ?_ ?_ ?_ ?_) (ap_c5 ?_ ?_ ?_ ?_ ?_) (ap_c5 ?_ ?_ ?_ ?_ ?_) (ap_c5 ?_ ?_ ?_ ?_ ?_) (ap_c5 ?_ ?_ ?_ ?_ ?_) (ap_c5 ?_ ?_ ?_ ?_ ?_) (ap_c5 ?_ ?_ ?_ ?_ ?_)
  · exact show ((-1000000 : Int) ≤ (-1) ∧ (-1) ≤ (1000000 : Int)) ∧ ((-1 : Int) = (-1 : Int) * 1) from ⟨⟨by decide, by decide⟩, by grind⟩
  · exact show ((-1000000 : Int) ≤ 0 ∧ 0 ≤ (1000000 : Int)) ∧ ((0 : Int) = (-1 : Int) * 0) from ⟨⟨by decide, by decide⟩, by grind⟩
  · exact show ((-1000000 : Int) ≤ 0 ∧ 0 ≤ (1000000 : Int)) ∧ ((0 : Int) = (-1 : Int) * 0) from ⟨⟨by decide, by decide⟩, by grind⟩
  · exact show ((-1000000 : Int) ≤ 0 ∧ 0 ≤ (1000000 : Int)) ∧ ((0 : Int) = (-1 : Int) * 0) from ⟨⟨by decide, by decide⟩, by grind⟩
  · exact show ((-1000000 : Int) ≤ (-R0) ∧ (-R0) ≤ (1000000 : Int)) ∧ ((-R0 : Int) = (-1 : Int) * R0) from ⟨⟨by omega, by omega⟩, by grind⟩
  · exact show ((-1000000 : Int) ≤ (-1) ∧ (-1) ≤ (1000000 : Int)) ∧ ((-1 : Int) = -((-1 : Int) * (-1))) from ⟨⟨by decide, by decide⟩, by grind⟩
  · exact show ((-1000000 : Int) ≤ (-p) ∧ (-p) ≤ (1000000 : Int)) ∧ ((-1 : Int) * ((-1) * (-p) - (-1) * 0) = 1 * (-p)) from ⟨⟨by omega, by omega⟩, by grind⟩
  · exact show ((-1000000 : Int) ≤ 0 ∧ 0 ≤ (1000000 : Int)) ∧ ((-1 : Int) * (0 * (-p) - (-1) * 0) = 1 * 0) from ⟨⟨by decide, by decide⟩, by grind⟩
  · exact show ((-1000000 : Int) ≤ 0 ∧ 0 ≤ (1000000 : Int)) ∧ ((0 : Int) = (-1 : Int) * 0) from ⟨⟨by decide, by decide⟩, by grind⟩
  · exact show ((-1000000 : Int) ≤ (-R0 + R1 * p) ∧ (-R0 + R1 * p) ≤ (1000000 : Int)) ∧ ((-1 : Int) * (R1 * (-p) - (-1) * R0) = 1 * (-R0 + R1 * p)) from ⟨⟨by omega, by omega⟩, by grind⟩
  · exact show ((-1000000 : Int) ≤ 1 ∧ 1 ≤ (1000000 : Int)) ∧ ((1 : Int) = -((-1 : Int) * 1)) from ⟨⟨by decide, by decide⟩, by grind⟩
  · exact show ((-1000000 : Int) ≤ 0 ∧ 0 ≤ (1000000 : Int)) ∧ ((-1 : Int) * (0 * (-p) - 1 * 0) = 1 * 0) from ⟨⟨by decide, by decide⟩, by grind⟩
  · exact show ((-1000000 : Int) ≤ 0 ∧ 0 ≤ (1000000 : Int)) ∧ ((-1 : Int) * (0 * (-p) - 1 * 0) = 1 * 0) from ⟨⟨by decide, by decide⟩, by grind⟩
  · exact show ((-1000000 : Int) ≤ 0 ∧ 0 ≤ (1000000 : Int)) ∧ ((0 : Int) = (-1 : Int) * 0) from ⟨⟨by decide, by decide⟩, by grind⟩
  · exact show ((-1000000 : Int) ≤ (R0 + R2 * p) ∧ (R0 + R2 * p) ≤ (1000000 : Int)) ∧ ((-1 : Int) * (R2 * (-p) - 1 * R0) = 1 * (R0 + R2 * p)) from ⟨⟨by omega, by omega⟩, by grind⟩
  · exact show ((-1000000 : Int) ≤ 0 ∧ 0 ≤ (1000000 : Int)) ∧ ((0 : Int) = -((-1 : Int) * 0)) from ⟨⟨by decide, by decide⟩, by grind⟩
  · exact show ((-1000000 : Int) ≤ p ∧ p ≤ (1000000 : Int)) ∧ ((-1 : Int) * (1 * (-p) - 0 * 0) = 1 * p) from ⟨⟨by omega, by omega⟩, by grind⟩
  · exact show ((-1000000 : Int) ≤ 0 ∧ 0 ≤ (1000000 : Int)) ∧ ((-1 : Int) * (0 * (-p) - 0 * 0) = 1 * 0) from ⟨⟨by decide, by decide⟩, by grind⟩
  · exact show ((-1000000 : Int) ≤ 0 ∧ 0 ≤ (1000000 : Int)) ∧ ((0 : Int) = (-1 : Int) * 0) from ⟨⟨by decide, by decide⟩, by grind⟩
  · exact show ((-1000000 : Int) ≤ (R3 * p) ∧ (R3 * p) ≤ (1000000 : Int)) ∧ ((-1 : Int) * (R3 * (-p) - 0 * R0) = 1 * (R3 * p)) from ⟨⟨by omega, by omega⟩, by grind⟩
  · exact show ((-1000000 : Int) ≤ 0 ∧ 0 ≤ (1000000 : Int)) ∧ ((0 : Int) = -((-1 : Int) * 0)) from ⟨⟨by decide, by decide⟩, by grind⟩
  · exact show ((-1000000 : Int) ≤ 0 ∧ 0 ≤ (1000000 : Int)) ∧ ((-1 : Int) * (0 * (-p) - 0 * 0) = 1 * 0) from ⟨⟨by decide, by decide⟩, by grind⟩
  · exact show ((-1000000 : Int) ≤ p ∧ p ≤ (1000000 : Int)) ∧ ((-1 : Int) * (1 * (-p) - 0 * 0) = 1 * p) from ⟨⟨by omega, by omega⟩, by grind⟩
  · exact show ((-1000000 : Int) ≤ 0 ∧ 0 ≤ (1000000 : Int)) ∧ ((0 : Int) = (-1 : Int) * 0) from ⟨⟨by decide, by decide⟩, by grind⟩
  · exact show ((-1000000 : Int) ≤ (R4 * p) ∧ (R4 * p) ≤ (1000000 : Int)) ∧ ((-1 : Int) * (R4 * (-p) - 0 * R0) = 1 * (R4 * p)) from ⟨⟨by omega, by omega⟩, by grind⟩
  · exact show ((-1000000 : Int) ≤ c ∧ c ≤ (1000000 : Int)) ∧ ((c : Int) = -((-1 : Int) * c)) from ⟨⟨by omega, by omega⟩, by grind⟩
  · exact show ((-1000000 : Int) ≤ p ∧ p ≤ (1000000 : Int)) ∧ ((-1 : Int) * (1 * (-p) - c * 0) = 1 * p) from ⟨⟨by omega, by omega⟩, by grind⟩
  · exact show ((-1000000 : Int) ≤ 0 ∧ 0 ≤ (1000000 : Int)) ∧ ((-1 : Int) * (0 * (-p) - c * 0) = 1 * 0) from ⟨⟨by decide, by decide⟩, by grind⟩
  · exact show ((-1000000 : Int) ≤ 0 ∧ 0 ≤ (1000000 : Int)) ∧ ((0 : Int) = (-1 : Int) * 0) from ⟨⟨by decide, by decide⟩, by grind⟩
  · exact show ((-1000000 : Int) ≤ (R0 * c + W0 * p) ∧ (R0 * c + W0 * p) ≤ (1000000 : Int)) ∧ ((-1 : Int) * (W0 * (-p) - c * R0) = 1 * (R0 * c + W0 * p)) from ⟨⟨by omega, by omega⟩, by grind⟩
  · exact show ((-1000000 : Int) ≤ (-1) ∧ (-1) ≤ (1000000 : Int)) ∧ ((-1 : Int) = -((-1 : Int) * (-1))) from ⟨⟨by decide, by decide⟩, by grind⟩
  · exact show ((-1000000 : Int) ≤ 0 ∧ 0 ≤ (1000000 : Int)) ∧ ((-1 : Int) * (0 * (-p) - (-1) * 0) = 1 * 0) from ⟨⟨by decide, by decide⟩, by grind⟩
  · exact show ((-1000000 : Int) ≤ 0 ∧ 0 ≤ (1000000 : Int)) ∧ ((-1 : Int) * (0 * (-p) - (-1) * 0) = 1 * 0) from ⟨⟨by decide, by decide⟩, by grind⟩
  · exact show ((-1000000 : Int) ≤ 0 ∧ 0 ≤ (1000000 : Int)) ∧ ((0 : Int) = (-1 : Int) * 0) from ⟨⟨by decide, by decide⟩, by grind⟩
  · exact show ((-1000000 : Int) ≤ (-R0 + W1 * p) ∧ (-R0 + W1 * p) ≤ (1000000 : Int)) ∧ ((-1 : Int) * (W1 * (-p) - (-1) * R0) = 1 * (-R0 + W1 * p)) from ⟨⟨by omega, by omega⟩, by grind⟩
  · exact show ((-1000000 : Int) ≤ 0 ∧ 0 ≤ (1000000 : Int)) ∧ ((0 : Int) = -((-1 : Int) * 0)) from ⟨⟨by decide, by decide⟩, by grind⟩
  · exact show ((-1000000 : Int) ≤ p ∧ p ≤ (1000000 : Int)) ∧ ((-1 : Int) * (1 * (-p) - 0 * 0) = 1 * p) from ⟨⟨by omega, by omega⟩, by grind⟩
  · exact show ((-1000000 : Int) ≤ 0 ∧ 0 ≤ (1000000 : Int)) ∧ ((-1 : Int) * (0 * (-p) - 0 * 0) = 1 * 0) from ⟨⟨by decide, by decide⟩, by grind⟩
  · exact show ((-1000000 : Int) ≤ 0 ∧ 0 ≤ (1000000 : Int)) ∧ ((0 : Int) = (-1 : Int) * 0) from ⟨⟨by decide, by decide⟩, by grind⟩
  · exact show ((-1000000 : Int) ≤ (W2 * p) ∧ (W2 * p) ≤ (1000000 : Int)) ∧ ((-1 : Int) * (W2 * (-p) - 0 * R0) = 1 * (W2 * p)) from ⟨⟨by omega, by omega⟩, by grind⟩
  · exact show ((-1000000 : Int) ≤ 0 ∧ 0 ≤ (1000000 : Int)) ∧ ((0 : Int) = -((-1 : Int) * 0)) from ⟨⟨by decide, by decide⟩, by grind⟩
  · exact show ((-1000000 : Int) ≤ 0 ∧ 0 ≤ (1000000 : Int)) ∧ ((-1 : Int) * (0 * (-p) - 0 * 0) = 1 * 0) from ⟨⟨by decide, by decide⟩, by grind⟩
  · exact show ((-1000000 : Int) ≤ p ∧ p ≤ (1000000 : Int)) ∧ ((-1 : Int) * (1 * (-p) - 0 * 0) = 1 * p) from ⟨⟨by omega, by omega⟩, by grind⟩
  · exact show ((-1000000 : Int) ≤ 0 ∧ 0 ≤ (1000000 : Int)) ∧ ((0 : Int) = (-1 : Int) * 0) from ⟨⟨by decide, by decide⟩, by grind⟩
  · exact show ((-1000000 : Int) ≤ (W3 * p) ∧ (W3 * p) ≤ (1000000 : Int)) ∧ ((-1 : Int) * (W3 * (-p) - 0 * R0) = 1 * (W3 * p)) from ⟨⟨by omega, by omega⟩, by grind⟩
def ap_MD1 (p c R0 R1 R2 R3 R4 W0 W1 W2 W3 : Int) : List (List Int) := [[-1, 0, 0, 0, -R0], [1, -p, 0, 0, R0 - R1 * p], [1, 0, 0, 0, R0 + R2 * p], [-1, p, 0, 0, -R0 + R1 * p + R3 * p], [0, 0, p, 0, R4 * p], [-1 + c, p, 0, 0, -R0 + R0 * c + R1 * p + W0 * p], [-1, 0, 0, 0, -R0 + W1 * p], [-1, p, 0, 0, -R0 + R1 * p + W2 * p], [0, 0, p, 0, W3 * p]]
theorem ap_cD1 {p c R0 R1 R2 R3 R4 W0 W1 W2 W3 : Int} (h : ap_bd p c R0 R1 R2 R3 R4 W0 W1 W2 W3) : ∀ r c', r < 9 → c' < 5 → ap_s (ap_at (ap_MD1 p c R0 R1 R2 R3 R4 W0 W1 W2 W3) r c') ∧ ap_cert (ap_MD0 p c R0 R1 R2 R3 R4 W0 W1 W2 W3) (ap_MD1 p c R0 R1 R2 R3 R4 W0 W1 W2 W3) p (-1) 1 1 3 r c' := by
  obtain ⟨hp, hc, hR0, hR1, hR2, hR3, hR4, hW0, hW1, hW2, hW3, q1, q2, q3, q4, q5, q6, q7, q8, q9, q10, q11, q12⟩ := h
  refine ap_rc9 (ap_c5 ?_ ?_ ?_ ?_ ?_) (ap_c5 ?_ ?_ ?_ ?_ ?_) (ap_c5 ?_ ?_ ?_ ?_ ?_) (ap_c5 ?_ ?_ ?_ ?_ ?_) (ap_c5 ?_ ?_ ?_ ?_ ?_) (ap_c5 ?_ ?_ ?_ ?_ ?_) (ap_c5 ?_ ?_ ?_ ?_ ?_) (ap_c5 ?_ ?_ ?_ ?_ ?_) (ap_c5 ?_ ?_ ?_ ?_ ?_)
  · exact show ((-1000000 : Int) ≤ (-1) ∧ (-1) ≤ (1000000 : Int)) ∧ ((-1 : Int) * ((-1) * (-p) - 0 * (-1)) = p * (-1)) from ⟨⟨by decide, by decide⟩, by grind⟩
  · exact show ((-1000000 : Int) ≤ 0 ∧ 0 ≤ (1000000 : Int)) ∧ ((0 : Int) = -((-1 : Int) * 0)) from ⟨⟨by decide, by decide⟩, by grind⟩
  · exact show ((-1000000 : Int) ≤ 0 ∧ 0 ≤ (1000000 : Int)) ∧ ((-1 : Int) * (0 * (-p) - 0 * 0) = p * 0) from ⟨⟨by decide, by decide⟩, by grind⟩
  · exact show ((-1000000 : Int) ≤ 0 ∧ 0 ≤ (1000000 : Int)) ∧ ((0 : Int) = (-1 : Int) * 0) from ⟨⟨by decide, by decide⟩, by grind⟩
  · exact show ((-1000000 : Int) ≤ (-R0) ∧ (-R0) ≤ (1000000 : Int)) ∧ ((-1 : Int) * ((-R0) * (-p) - 0 * (-R0 + R1 * p)) = p * (-R0)) from ⟨⟨by omega, by omega⟩, by grind⟩
  · exact show ((-1000000 : Int) ≤ 1 ∧ 1 ≤ (1000000 : Int)) ∧ ((1 : Int) = (-1 : Int) * (-1)) from ⟨⟨by decide, by decide⟩, by grind⟩
  · exact show ((-1000000 : Int) ≤ (-p) ∧ (-p) ≤ (1000000 : Int)) ∧ ((-p : Int) = (-1 : Int) * p) from ⟨⟨by omega, by omega⟩, by grind⟩
  · exact show ((-1000000 : Int) ≤ 0 ∧ 0 ≤ (1000000 : Int)) ∧ ((0 : Int) = (-1 : Int) * 0) from ⟨⟨by decide, by decide⟩, by grind⟩
  · exact show ((-1000000 : Int) ≤ 0 ∧ 0 ≤ (1000000 : Int)) ∧ ((0 : Int) = (-1 : Int) * 0) from ⟨⟨by decide, by decide⟩, by grind⟩
  · exact show ((-1000000 : Int) ≤ (R0 - R1 * p) ∧ (R0 - R1 * p) ≤ (1000000 : Int)) ∧ ((R0 - R1 * p : Int) = (-1 : Int) * (-R0 + R1 * p)) from ⟨⟨by omega, by omega⟩, by grind⟩
  · exact show ((-1000000 : Int) ≤ 1 ∧ 1 ≤ (1000000 : Int)) ∧ ((-1 : Int) * (1 * (-p) - 0 * (-1)) = p * 1) from ⟨⟨by decide, by decide⟩, by grind⟩
  · exact show ((-1000000 : Int) ≤ 0 ∧ 0 ≤ (1000000 : Int)) ∧ ((0 : Int) = -((-1 : Int) * 0)) from ⟨⟨by decide, by decide⟩, by grind⟩
  · exact show ((-1000000 : Int) ≤ 0 ∧ 0 ≤ (1000000 : Int)) ∧ ((-1 : Int) * (0 * (-p) - 0 * 0) = p * 0) from ⟨⟨by decide, by decide⟩, by grind⟩
  · exact show ((-1000000 : Int) ≤ 0 ∧ 0 ≤ (1000000 : Int)) ∧ ((0 : Int) = (-1 : Int) * 0) from ⟨⟨by decide, by decide⟩, by grind⟩
  · exact show ((-1000000 : Int) ≤ (R0 + R2 * p) ∧ (R0 + R2 * p) ≤ (1000000 : Int)) ∧ ((-1 : Int) * ((R0 + R2 * p) * (-p) - 0 * (-R0 + R1 * p)) = p * (R0 + R2 * p)) from ⟨⟨by omega, by omega⟩, by grind⟩
  · exact show ((-1000000 : Int) ≤ (-1) ∧ (-1) ≤ (1000000 : Int)) ∧ ((-1 : Int) * (0 * (-p) - p * (-1)) = p * (-1)) from ⟨⟨by decide, by decide⟩, by grind⟩
  · exact show ((-1000000 : Int) ≤ p ∧ p ≤ (1000000 : Int)) ∧ ((p : Int) = -((-1 : Int) * p)) from ⟨⟨by omega, by omega⟩, by grind⟩
  · exact show ((-1000000 : Int) ≤ 0 ∧ 0 ≤ (1000000 : Int)) ∧ ((-1 : Int) * (0 * (-p) - p * 0) = p * 0) from ⟨⟨by decide, by decide⟩, by grind⟩
  · exact show ((-1000000 : Int) ≤ 0 ∧ 0 ≤ (1000000 : Int)) ∧ ((0 : Int) = (-1 : Int) * 0) from ⟨⟨by decide, by decide⟩, by grind⟩
  · exact show ((-1000000 : Int) ≤ (-R0 + R1 * p + R3 * p) ∧ (-R0 + R1 * p + R3 * p) ≤ (1000000 : Int)) ∧ ((-1 : Int) * ((R3 * p) * (-p) - p * (-R0 + R1 * p)) = p * (-R0 + R1 * p + R3 * p)) from ⟨⟨by omega, by omega⟩, by grind⟩
  · exact show ((-1000000 : Int) ≤ 0 ∧ 0 ≤ (1000000 : Int)) ∧ ((-1 : Int) * (0 * (-p) - 0 * (-1)) = p * 0) from ⟨⟨by decide, by decide⟩, by grind⟩
  · exact show ((-1000000 : Int) ≤ 0 ∧ 0 ≤ (1000000 : Int)) ∧ ((0 : Int) = -((-1 : Int) * 0)) from ⟨⟨by decide, by decide⟩, by grind⟩
  · exact show ((-1000000 : Int) ≤ p ∧ p ≤ (1000000 : Int)) ∧ ((-1 : Int) * (p * (-p) - 0 * 0) = p * p) from ⟨⟨by omega, by omega⟩, by grind⟩
  · exact show ((-1000000 : Int) ≤ 0 ∧ 0 ≤ (1000000 : Int)) ∧ ((0 : Int) = (-1 : Int) * 0) from ⟨⟨by decide, by decide⟩, by grind⟩
  · exact show ((-1000000 : Int) ≤ (R4 * p) ∧ (R4 * p) ≤ (1000000 : Int)) ∧ ((-1 : Int) * ((R4 * p) * (-p) - 0 * (-R0 + R1 * p)) = p * (R4 * p)) from ⟨⟨by omega, by omega⟩, by grind⟩
  · exact show ((-1000000 : Int) ≤ (-1 + c) ∧ (-1 + c) ≤ (1000000 : Int)) ∧ ((-1 : Int) * (c * (-p) - p * (-1)) = p * (-1 + c)) from ⟨⟨by omega, by omega⟩, by grind⟩
  · exact show ((-1000000 : Int) ≤ p ∧ p ≤ (1000000 : Int)) ∧ ((p : Int) = -((-1 : Int) * p)) from ⟨⟨by omega, by omega⟩, by grind⟩
  · exact show ((-1000000 : Int) ≤ 0 ∧ 0 ≤ (1000000 : Int)) ∧ ((-1 : Int) * (0 * (-p) - p * 0) = p * 0) from ⟨⟨by decide, by decide⟩, by grind⟩
  · exact show ((-1000000 : Int) ≤ 0 ∧ 0 ≤ (1000000 : Int)) ∧ ((0 : Int) = (-1 : Int) * 0) from ⟨⟨by decide, by decide⟩, by grind⟩
  · exact show ((-1000000 : Int) ≤ (-R0 + R0 * c + R1 * p + W0 * p) ∧ (-R0 + R0 * c + R1 * p + W0 * p) ≤ (1000000 : Int)) ∧ ((-1 : Int) * ((R0 * c + W0 * p) * (-p) - p * (-R0 + R1 * p)) = p * (-R0 + R0 * c + R1 * p + W0 * p)) from ⟨⟨by omega, by omega⟩, by grind⟩
  · exact show ((-1000000 : Int) ≤ (-1) ∧ (-1) ≤ (1000000 : Int)) ∧ ((-1 : Int) * ((-1) * (-p) - 0 * (-1)) = p * (-1)) from ⟨⟨by decide, by decide⟩, by grind⟩
  · exact show ((-1000000 : Int) ≤ 0 ∧ 0 ≤ (1000000 : Int)) ∧ ((0 : Int) = -((-1 : Int) * 0)) from ⟨⟨by decide, by decide⟩, by grind⟩
  · exact show ((-1000000 : Int) ≤ 0 ∧ 0 ≤ (1000000 : Int)) ∧ ((-1 : Int) * (0 * (-p) - 0 * 0) = p * 0) from ⟨⟨by decide, by decide⟩, by grind⟩
  · exact show ((-1000000 : Int) ≤ 0 ∧ 0 ≤ (1000000 : Int)) ∧ ((0 : Int) = (-1 : Int) * 0) from ⟨⟨by decide, by decide⟩, by grind⟩
  · exact show ((-1000000 : Int) ≤ (-R0 + W1 * p) ∧ (-R0 + W1 * p) ≤ (1000000 : Int)) ∧ ((-1 : Int) * ((-R0 + W1 * p) * (-p) - 0 * (-R0 + R1 * p)) = p * (-R0 + W1 * p)) from ⟨⟨by omega, by omega⟩, by grind⟩
  · exact show ((-1000000 : Int) ≤ (-1) ∧ (-1) ≤ (1000000 : Int)) ∧ ((-1 : Int) * (0 * (-p) - p * (-1)) = p * (-1)) from ⟨⟨by decide, by decide⟩, by grind⟩
  · exact show ((-1000000 : Int) ≤ p ∧ p ≤ (1000000 : Int)) ∧ ((p : Int) = -((-1 : Int) * p)) from ⟨⟨by omega, by omega⟩, by grind⟩
  · exact show ((-1000000 : Int) ≤ 0 ∧ 0 ≤ (1000000 : Int)) ∧ ((-1 : Int) * (0 * (-p) - p * 0) = p * 0) from ⟨⟨by decide, by decide⟩, by grind⟩
  · exact show ((-1000000 : Int) ≤ 0 ∧ 0 ≤ (1000000 : Int)) ∧ ((0 : Int) = (-1 : Int) * 0) from ⟨⟨by decide, by decide⟩, by grind⟩
  · exact show ((-1000000 : Int) ≤ (-R0 + R1 * p + W2 * p) ∧ (-R0 + R1 * p + W2 * p) ≤ (1000000 : Int)) ∧ ((-1 : Int) * ((W2 * p) * (-p) - p * (-R0 + R1 * p)) = p * (-R0 + R1 * p + W2 * p)) from ⟨⟨by omega, by omega⟩, by grind⟩
  · exact show ((-1000000 : Int) ≤ 0 ∧ 0 ≤ (1000000 : Int)) ∧ ((-1 : Int) * (0 * (-p) - 0 * (-1)) = p * 0) from ⟨⟨by decide, by decide⟩, by grind⟩
  · exact show ((-1000000 : Int) ≤ 0 ∧ 0 ≤ (1000000 : Int)) ∧ ((0 : Int) = -((-1 : Int) * 0)) from ⟨⟨by decide, by decide⟩, by grind⟩
  · exact show ((-1000000 : Int) ≤ p ∧ p ≤ (1000000 : Int)) ∧ ((-1 : Int) * (p * (-p) - 0 * 0) = p * p) from ⟨⟨by omega, by omega⟩, by grind⟩
  · exact show ((-1000000 : Int) ≤ 0 ∧ 0 ≤ (1000000 : Int)) ∧ ((0 : Int) = (-1 : Int) * 0) from ⟨⟨by decide, by decide⟩, by grind⟩
  · exact show ((-1000000 : Int) ≤ (W3 * p) ∧ (W3 * p) ≤ (1000000 : Int)) ∧ ((-1 : Int) * ((W3 * p) * (-p) - 0 * (-R0 + R1 * p)) = p * (W3 * p)) from ⟨⟨by omega, by omega⟩, by grind⟩
def ap_MD2 (p c R0 R1 R2 R3 R4 W0 W1 W2 W3 : Int) : List (List Int) := [[-p, 0, 0, 0, R0], [1, -1, 0, 0, -R1], [1, 0, 0, 0, R2], [-1, 1, 0, 0, R1 + R3], [0, 0, 1, 0, R4], [-1 + c, 1, 0, 0, R1 + W0], [-1, 0, 0, 0, W1], [-1, 1, 0, 0, R1 + W2], [0, 0, 1, 0, W3]]
theorem ap_cD2 {p c R0 R1 R2 R3 R4 W0 W1 W2 W3 : Int} (h : ap_bd p c R0 R1 R2 R3 R4 W0 W1 W2 W3) : ∀ r c', r < 9 → c' < 5 → ap_s (ap_at (ap_MD2 p c R0 R1 R2 R3 R4 W0 W1 W2 W3) r c') ∧ ap_cert (ap_MD p c R0 R1 R2 R3 R4 W0 W1 W2 W3) (ap_MD2 p c R0 R1 R2 R3 R4 W0 W1 W2 W3) 1 (-1) 1 1 3 r c' := by
  obtain ⟨hp, hc, hR0, hR1, hR2, hR3, hR4, hW0, hW1, hW2, hW3, q1, q2, q3, q4, q5, q6, q7, q8, q9, q10, q11, q12⟩ := h
  refine ap_rc9 (ap_c5 ?_ ?_ ?_ ?_ ?_) (ap_c5 ?_ ?_ ?_ ?_ ?_) (ap_c5 ?_ ?_ ?_ ?_ ?_) (ap_c5 ?_ ?_ ?_ ?_ ?_) (ap_c5 ?_ ?_ ?_ ?_ ?_) (ap_c5 ?_ ?_ ?_ ?_ ?_) (ap_c5 ?_ ?_ ?_ ?_ ?_) (ap_c5 ?_ ?_ ?_ ?_ ?_) (ap_c5 ?_ ?_ ?_ ?_ ?_)
  · exact show ((-1000000 : Int) ≤ (-p) ∧ (-p) ≤ (1000000 : Int)) ∧ ((-1 : Int) * ((-p) * (-1) - 0 * (-1)) = 1 * (-p)) from ⟨⟨by omega, by omega⟩, by grind⟩
  · exact show ((-1000000 : Int) ≤ 0 ∧ 0 ≤ (1000000 : Int)) ∧ ((0 : Int) = -((-1 : Int) * 0)) from ⟨⟨by decide, by decide⟩, by decide⟩
  · exact show ((-1000000 : Int) ≤ 0 ∧ 0 ≤ (1000000 : Int)) ∧ ((-1 : Int) * (0 * (-1) - 0 * 0) = 1 * 0) from ⟨⟨by decide, by decide⟩, by decide⟩
  · exact show ((-1000000 : Int) ≤ 0 ∧ 0 ≤ (1000000 : Int)) ∧ ((0 : Int) = (-1 : Int) * 0) from ⟨⟨by decide, by decide⟩, by decide⟩
  · exact show ((-1000000 : Int) ≤ R0 ∧ R0 ≤ (1000000 : Int)) ∧ ((-1 : Int) * (R0 * (-1) - 0 * R1) = 1 * R0) from ⟨⟨by omega, by omega⟩, by grind⟩
  · exact show ((-1000000 : Int) ≤ 1 ∧ 1 ≤ (1000000 : Int)) ∧ ((1 : Int) = (-1 : Int) * (-1)) from ⟨⟨by decide, by decide⟩, by decide⟩
  · exact show ((-1000000 : Int) ≤ (-1) ∧ (-1) ≤ (1000000 : Int)) ∧ ((-1 : Int) = (-1 : Int) * 1) from ⟨⟨by decide, by decide⟩, by decide⟩
  · exact show ((-1000000 : Int) ≤ 0 ∧ 0 ≤ (1000000 : Int)) ∧ ((0 : Int) = (-1 : Int) * 0) from ⟨⟨by decide, by decide⟩, by decide⟩
  · exact show ((-1000000 : Int) ≤ 0 ∧ 0 ≤ (1000000 : Int)) ∧ ((0 : Int) = (-1 : Int) * 0) from ⟨⟨by decide, by decide⟩, by decide⟩
  · exact show ((-1000000 : Int) ≤ (-R1) ∧ (-R1) ≤ (1000000 : Int)) ∧ ((-R1 : Int) = (-1 : Int) * R1) from ⟨⟨by omega, by omega⟩, by grind⟩
  · exact show ((-1000000 : Int) ≤ 1 ∧ 1 ≤ (1000000 : Int)) ∧ ((-1 : Int) * (1 * (-1) - 0 * (-1)) = 1 * 1) from ⟨⟨by decide, by decide⟩, by decide⟩
  · exact show ((-1000000 : Int) ≤ 0 ∧ 0 ≤ (1000000 : Int)) ∧ ((0 : Int) = -((-1 : Int) * 0)) from ⟨⟨by decide, by decide⟩, by decide⟩
  · exact show ((-1000000 : Int) ≤ 0 ∧ 0 ≤ (1000000 : Int)) ∧ ((-1 : Int) * (0 * (-1) - 0 * 0) = 1 * 0) from ⟨⟨by decide, by decide⟩, by decide⟩
  · exact show ((-1000000 : Int) ≤ 0 ∧ 0 ≤ (1000000 : Int)) ∧ ((0 : Int) = (-1 : Int) * 0) from ⟨⟨by decide, by decide⟩, by decide⟩
  · exact show ((-1000000 : Int) ≤ R2 ∧ R2 ≤ (1000000 : Int)) ∧ ((-1 : Int) * (R2 * (-1) - 0 * R1) = 1 * R2) from ⟨⟨by omega, by omega⟩, by grind⟩
  · exact show ((-1000000 : Int) ≤ (-1) ∧ (-1) ≤ (1000000 : Int)) ∧ ((-1 : Int) * (0 * (-1) - 1 * (-1)) = 1 * (-1)) from ⟨⟨by decide, by decide⟩, by decide⟩
  · exact show ((-1000000 : Int) ≤ 1 ∧ 1 ≤ (1000000 : Int)) ∧ ((1 : Int) = -((-1 : Int) * 1)) from ⟨⟨by decide, by decide⟩, by decide⟩
  · exact show ((-1000000 : Int) ≤ 0 ∧ 0 ≤ (1000000 : Int)) ∧ ((-1 : Int) * (0 * (-1) - 1 * 0) = 1 * 0) from ⟨⟨by decide, by decide⟩, by decide⟩
  · exact show ((-1000000 : Int) ≤ 0 ∧ 0 ≤ (1000000 : Int)) ∧ ((0 : Int) = (-1 : Int) * 0) from ⟨⟨by decide, by decide⟩, by decide⟩
  · exact show ((-1000000 : Int) ≤ (R1 + R3) ∧ (R1 + R3) ≤ (1000000 : Int)) ∧ ((-1 : Int) * (R3 * (-1) - 1 * R1) = 1 * (R1 + R3)) from ⟨⟨by omega, by omega⟩, by grind⟩
  · exact show ((-1000000 : Int) ≤ 0 ∧ 0 ≤ (1000000 : Int)) ∧ ((-1 : Int) * (0 * (-1) - 0 * (-1)) = 1 * 0) from ⟨⟨by decide, by decide⟩, by decide⟩
  · exact show ((-1000000 : Int) ≤ 0 ∧ 0 ≤ (1000000 : Int)) ∧ ((0 : Int) = -((-1 : Int) * 0)) from ⟨⟨by decide, by decide⟩, by decide⟩
  · exact show ((-1000000 : Int) ≤ 1 ∧ 1 ≤ (1000000 : Int)) ∧ ((-1 : Int) * (1 * (-1) - 0 * 0) = 1 * 1) from ⟨⟨by decide, by decide⟩, by decide⟩
  · exact show ((-1000000 : Int) ≤ 0 ∧ 0 ≤ (1000000 : Int)) ∧ ((0 : Int) = (-1 : Int) * 0) from ⟨⟨by decide, by decide⟩, by decide⟩
  · exact show ((-1000000 : Int) ≤ R4 ∧ R4 ≤ (1000000 : Int)) ∧ ((-1 : Int) * (R4 * (-1) - 0 * R1) = 1 * R4) from ⟨⟨by omega, by omega⟩, by grind⟩
  · exact show ((-1000000 : Int) ≤ (-1 + c) ∧ (-1 + c) ≤ (1000000 : Int)) ∧ ((-1 : Int) * (c * (-1) - 1 * (-1)) = 1 * (-1 + c)) from ⟨⟨by omega, by omega⟩, by grind⟩
  · exact show ((-1000000 : Int) ≤ 1 ∧ 1 ≤ (1000000 : Int)) ∧ ((1 : Int) = -((-1 : Int) * 1)) from ⟨⟨by decide, by decide⟩, by decide⟩
  · exact show ((-1000000 : Int) ≤ 0 ∧ 0 ≤ (1000000 : Int)) ∧ ((-1 : Int) * (0 * (-1) - 1 * 0) = 1 * 0) from ⟨⟨by decide, by decide⟩, by decide⟩
  · exact show ((-1000000 : Int) ≤ 0 ∧ 0 ≤ (1000000 : Int)) ∧ ((0 : Int) = (-1 : Int) * 0) from ⟨⟨by decide, by decide⟩, by decide⟩
  · exact show ((-1000000 : Int) ≤ (R1 + W0) ∧ (R1 + W0) ≤ (1000000 : Int)) ∧ ((-1 : Int) * (W0 * (-1) - 1 * R1) = 1 * (R1 + W0)) from ⟨⟨by omega, by omega⟩, by grind⟩
  · exact show ((-1000000 : Int) ≤ (-1) ∧ (-1) ≤ (1000000 : Int)) ∧ ((-1 : Int) * ((-1) * (-1) - 0 * (-1)) = 1 * (-1)) from ⟨⟨by decide, by decide⟩, by decide⟩
  · exact show ((-1000000 : Int) ≤ 0 ∧ 0 ≤ (1000000 : Int)) ∧ ((0 : Int) = -((-1 : Int) * 0)) from ⟨⟨by decide, by decide⟩, by decide⟩
  · exact show ((-1000000 : Int) ≤ 0 ∧ 0 ≤ (1000000 : Int)) ∧ ((-1 : Int) * (0 * (-1) - 0 * 0) = 1 * 0) from ⟨⟨by decide, by decide⟩, by decide⟩
  · exact show ((-1000000 : Int) ≤ 0 ∧ 0 ≤ (1000000 : Int)) ∧ ((0 : Int) = (-1 : Int) * 0) from ⟨⟨by decide, by decide⟩, by decide⟩
  · exact show ((-1000000 : Int) ≤ W1 ∧ W1 ≤ (1000000 : Int)) ∧ ((-1 : Int) * (W1 * (-1) - 0 * R1) = 1 * W1) from ⟨⟨by omega, by omega⟩, by grind⟩
  · exact show ((-1000000 : Int) ≤ (-1) ∧ (-1) ≤ (1000000 : Int)) ∧ ((-1 : Int) * (0 * (-1) - 1 * (-1)) = 1 * (-1)) from ⟨⟨by decide, by decide⟩, by decide⟩
  · exact show ((-1000000 : Int) ≤ 1 ∧ 1 ≤ (1000000 : Int)) ∧ ((1 : Int) = -((-1 : Int) * 1)) from ⟨⟨by decide, by decide⟩, by decide⟩
  · exact show ((-1000000 : Int) ≤ 0 ∧ 0 ≤ (1000000 : Int)) ∧ ((-1 : Int) * (0 * (-1) - 1 * 0) = 1 * 0) from ⟨⟨by decide, by decide⟩, by decide⟩
  · exact show ((-1000000 : Int) ≤ 0 ∧ 0 ≤ (1000000 : Int)) ∧ ((0 : Int) = (-1 : Int) * 0) from ⟨⟨by decide, by decide⟩, by decide⟩
  · exact show ((-1000000 : Int) ≤ (R1 + W2) ∧ (R1 + W2) ≤ (1000000 : Int)) ∧ ((-1 : Int) * (W2 * (-1) - 1 * R1) = 1 * (R1 + W2)) from ⟨⟨by omega, by omega⟩, by grind⟩
  · exact show ((-1000000 : Int) ≤ 0 ∧ 0 ≤ (1000000 : Int)) ∧ ((-1 : Int) * (0 * (-1) - 0 * (-1)) = 1 * 0) from ⟨⟨by decide, by decide⟩, by decide⟩
  · exact show ((-1000000 : Int) ≤ 0 ∧ 0 ≤ (1000000 : Int)) ∧ ((0 : Int) = -((-1 : Int) * 0)) from ⟨⟨by decide, by decide⟩, by decide⟩
  · exact show ((-1000000 : Int) ≤ 1 ∧ 1 ≤ (1000000 : Int)) ∧ ((-1 : Int) * (1 * (-1) - 0 * 0) = 1 * 1) from ⟨⟨by decide, by decide⟩, by decide⟩
  · exact show ((-1000000 : Int) ≤ 0 ∧ 0 ≤ (1000000 : Int)) ∧ ((0 : Int) = (-1 : Int) * 0) from ⟨⟨by decide, by decide⟩, by decide⟩
  · exact show ((-1000000 : Int) ≤ W3 ∧ W3 ≤ (1000000 : Int)) ∧ ((-1 : Int) * (W3 * (-1) - 0 * R1) = 1 * W3) from ⟨⟨by omega, by omega⟩, by grind⟩
theorem ap_sA {p c R0 R1 R2 R3 R4 W0 W1 W2 W3 : Int} (h : ap_bd p c R0 R1 R2 R3 R4 W0 W1 W2 W3) : ∀ r c', r < 9 → c' < 5 → ap_s (ap_at (ap_MA p c R0 R1 R2 R3 R4 W0 W1 W2 W3) r c') := by
  obtain ⟨hp, hc, hR0, hR1, hR2, hR3, hR4, hW0, hW1, hW2, hW3, q1, q2, q3, q4, q5, q6, q7, q8, q9, q10, q11, q12⟩ := h
  refine ap_rc9 (ap_c5 ?_ ?_ ?_ ?_ ?_) (ap_c5 ?_ ?_ ?_ ?_ ?_) (ap_c5 ?_ ?_ ?_ ?_ ?_) (ap_c5 ?_ ?_ ?_ ?_ ?_) (ap_c5 ?_ ?_ ?_ ?_ ?_) (ap_c5 ?_ ?_ ?_ ?_ ?_) (ap_c5 ?_ ?_ ?_ ?_ ?_) (ap_c5 ?_ ?_ ?_ ?_ ?_) (ap_c5 ?_ ?_ ?_ ?_ ?_)
  · exact show (-1000000 : Int) ≤ p ∧ p ≤ (1000000 : Int) from ⟨by omega, by omega⟩
  · exact show (-1000000 : Int) ≤ 0 ∧ 0 ≤ (1000000 : Int) from ⟨by decide, by decide⟩
  · exact show (-1000000 : Int) ≤ 0 ∧ 0 ≤ (1000000 : Int) from ⟨by decide, by decide⟩
  · exact show (-1000000 : Int) ≤ 0 ∧ 0 ≤ (1000000 : Int) from ⟨by decide, by decide⟩
  · exact show (-1000000 : Int) ≤ R0 ∧ R0 ≤ (1000000 : Int) from ⟨by omega, by omega⟩
  · exact show (-1000000 : Int) ≤ 1 ∧ 1 ≤ (1000000 : Int) from ⟨by decide, by decide⟩
  · exact show (-1000000 : Int) ≤ (-1) ∧ (-1) ≤ (1000000 : Int) from ⟨by decide, by decide⟩
  · exact show (-1000000 : Int) ≤ 0 ∧ 0 ≤ (1000000 : Int) from ⟨by decide, by decide⟩
  · exact show (-1000000 : Int) ≤ 0 ∧ 0 ≤ (1000000 : Int) from ⟨by decide, by decide⟩
  · exact show (-1000000 : Int) ≤ R1 ∧ R1 ≤ (1000000 : Int) from ⟨by omega, by omega⟩
  · exact show (-1000000 : Int) ≤ 1 ∧ 1 ≤ (1000000 : Int) from ⟨by decide, by decide⟩
  · exact show (-1000000 : Int) ≤ 0 ∧ 0 ≤ (1000000 : Int) from ⟨by decide, by decide⟩
  · exact show (-1000000 : Int) ≤ 0 ∧ 0 ≤ (1000000 : Int) from ⟨by decide, by decide⟩
  · exact show (-1000000 : Int) ≤ 0 ∧ 0 ≤ (1000000 : Int) from ⟨by decide, by decide⟩
  · exact show (-1000000 : Int) ≤ R2 ∧ R2 ≤ (1000000 : Int) from ⟨by omega, by omega⟩
  · exact show (-1000000 : Int) ≤ 0 ∧ 0 ≤ (1000000 : Int) from ⟨by decide, by decide⟩
  · exact show (-1000000 : Int) ≤ 1 ∧ 1 ≤ (1000000 : Int) from ⟨by decide, by decide⟩
  · exact show (-1000000 : Int) ≤ 0 ∧ 0 ≤ (1000000 : Int) from ⟨by decide, by decide⟩
  · exact show (-1000000 : Int) ≤ 0 ∧ 0 ≤ (1000000 : Int) from ⟨by decide, by decide⟩
  · exact show (-1000000 : Int) ≤ R3 ∧ R3 ≤ (1000000 : Int) from ⟨by omega, by omega⟩
  · exact show (-1000000 : Int) ≤ 0 ∧ 0 ≤ (1000000 : Int) from ⟨by decide, by decide⟩
  · exact show (-1000000 : Int) ≤ 0 ∧ 0 ≤ (1000000 : Int) from ⟨by decide, by decide⟩
  · exact show (-1000000 : Int) ≤ 1 ∧ 1 ≤ (1000000 : Int) from ⟨by decide, by decide⟩
  · exact show (-1000000 : Int) ≤ 0 ∧ 0 ≤ (1000000 : Int) from ⟨by decide, by decide⟩
  · exact show (-1000000 : Int) ≤ R4 ∧ R4 ≤ (1000000 : Int) from ⟨by omega, by omega⟩
  · exact show (-1000000 : Int) ≤ (-c) ∧ (-c) ≤ (1000000 : Int) from ⟨by omega, by omega⟩
  · exact show (-1000000 : Int) ≤ 1 ∧ 1 ≤ (1000000 : Int) from ⟨by decide, by decide⟩
  · exact show (-1000000 : Int) ≤ 0 ∧ 0 ≤ (1000000 : Int) from ⟨by decide, by decide⟩
  · exact show (-1000000 : Int) ≤ 0 ∧ 0 ≤ (1000000 : Int) from ⟨by decide, by decide⟩
  · exact show (-1000000 : Int) ≤ W0 ∧ W0 ≤ (1000000 : Int) from ⟨by omega, by omega⟩
  · exact show (-1000000 : Int) ≤ 1 ∧ 1 ≤ (1000000 : Int) from ⟨by decide, by decide⟩
  · exact show (-1000000 : Int) ≤ 0 ∧ 0 ≤ (1000000 : Int) from ⟨by decide, by decide⟩
  · exact show (-1000000 : Int) ≤ 0 ∧ 0 ≤ (1000000 : Int) from ⟨by decide, by decide⟩
  · exact show (-1000000 : Int) ≤ 0 ∧ 0 ≤ (1000000 : Int) from ⟨by decide, by decide⟩
  · exact show (-1000000 : Int) ≤ W1 ∧ W1 ≤ (1000000 : Int) from ⟨by omega, by omega⟩
  · exact show (-1000000 : Int) ≤ 0 ∧ 0 ≤ (1000000 : Int) from ⟨by decide, by decide⟩
  · exact show (-1000000 : Int) ≤ 1 ∧ 1 ≤ (1000000 : Int) from ⟨by decide, by decide⟩
  · exact show (-1000000 : Int) ≤ 0 ∧ 0 ≤ (1000000 : Int) from ⟨by decide, by decide⟩
  · exact show (-1000000 : Int) ≤ 0 ∧ 0 ≤ (1000000 : Int) from ⟨by decide, by decide⟩
  · exact show (-1000000 : Int) ≤ W2 ∧ W2 ≤ (1000000 : Int) from ⟨by omega, by omega⟩
  · exact show (-1000000 : Int) ≤ 0 ∧ 0 ≤ (1000000 : Int) from ⟨by decide, by decide⟩
  · exact show (-1000000 : Int) ≤ 0 ∧ 0 ≤ (1000000 : Int) from ⟨by decide, by decide⟩
  · exact show (-1000000 : Int) ≤ 1 ∧ 1 ≤ (1000000 : Int) from ⟨by decide, by decide⟩
  · exact show (-1000000 : Int) ≤ 0 ∧ 0 ≤ (1000000 : Int) from ⟨by decide, by decide⟩
  · exact show (-1000000 : Int) ≤ W3 ∧ W3 ≤ (1000000 : Int) from ⟨by omega, by omega⟩
theorem ap_sB {p c R0 R1 R2 R3 R4 W0 W1 W2 W3 : Int} (h : ap_bd p c R0 R1 R2 R3 R4 W0 W1 W2 W3) : ∀ r c', r < 10 → c' < 5 → ap_s (ap_at (ap_MB p c R0 R1 R2 R3 R4 W0 W1 W2 W3) r c') := by
  obtain ⟨hp, hc, hR0, hR1, hR2, hR3, hR4, hW0, hW1, hW2, hW3, q1, q2, q3, q4, q5, q6, q7, q8, q9, q10, q11, q12⟩ := h
  refine ap_rc10 (ap_c5 ?_ ?_ ?_ ?_ ?_) (ap_c5 ?_ ?_ ?_ ?_ ?_) (ap_c5 ?_ ?_ ?_ ?_ ?_) (ap_c5 ?_ ?_ ?_ ?_ ?_) (ap_c5 ?_ ?_ ?_ ?_ ?_) (ap_c5 ?_ ?_ ?_ ?_ ?_) (ap_c5 ?_ ?_ ?_ ?_ ?_) (ap_c5 ?_ ?_ ?_ ?_ ?_) (ap_c5 ?_ ?_ ?_ ?_ ?_) (ap_c5 ?_ ?_ ?_ ?_ ?_)
  · exact show (-1000000 : Int) ≤ p ∧ p ≤ (1000000 : Int) from ⟨by omega, by omega⟩
  · exact show (-1000000 : Int) ≤ 0 ∧ 0 ≤ (1000000 : Int) from ⟨by decide, by decide⟩
  · exact show (-1000000 : Int) ≤ 0 ∧ 0 ≤ (1000000 : Int) from ⟨by decide, by decide⟩
  · exact show (-1000000 : Int) ≤ (-1) ∧ (-1) ≤ (1000000 : Int) from ⟨by decide, by decide⟩
  · exact show (-1000000 : Int) ≤ R0 ∧ R0 ≤ (1000000 : Int) from ⟨by omega, by omega⟩
  · exact show (-1000000 : Int) ≤ 1 ∧ 1 ≤ (1000000 : Int) from ⟨by decide, by decide⟩
  · exact show (-1000000 : Int) ≤ (-1) ∧ (-1) ≤ (1000000 : Int) from ⟨by decide, by decide⟩
  · exact show (-1000000 : Int) ≤ 0 ∧ 0 ≤ (1000000 : Int) from ⟨by decide, by decide⟩
  · exact show (-1000000 : Int) ≤ (-1) ∧ (-1) ≤ (1000000 : Int) from ⟨by decide, by decide⟩
  · exact show (-1000000 : Int) ≤ R1 ∧ R1 ≤ (1000000 : Int) from ⟨by omega, by omega⟩
  · exact show (-1000000 : Int) ≤ 1 ∧ 1 ≤ (1000000 : Int) from ⟨by decide, by decide⟩
  · exact show (-1000000 : Int) ≤ 0 ∧ 0 ≤ (1000000 : Int) from ⟨by decide, by decide⟩
  · exact show (-1000000 : Int) ≤ 0 ∧ 0 ≤ (1000000 : Int) from ⟨by decide, by decide⟩
  · exact show (-1000000 : Int) ≤ (-1) ∧ (-1) ≤ (1000000 : Int) from ⟨by decide, by decide⟩
  · exact show (-1000000 : Int) ≤ R2 ∧ R2 ≤ (1000000 : Int) from ⟨by omega, by omega⟩
  · exact show (-1000000 : Int) ≤ 0 ∧ 0 ≤ (1000000 : Int) from ⟨by decide, by decide⟩
  · exact show (-1000000 : Int) ≤ 1 ∧ 1 ≤ (1000000 : Int) from ⟨by decide, by decide⟩
  · exact show (-1000000 : Int) ≤ 0 ∧ 0 ≤ (1000000 : Int) from ⟨by decide, by decide⟩
  · exact show (-1000000 : Int) ≤ (-1) ∧ (-1) ≤ (1000000 : Int) from ⟨by decide, by decide⟩
  · exact show (-1000000 : Int) ≤ R3 ∧ R3 ≤ (1000000 : Int) from ⟨by omega, by omega⟩
  · exact show (-1000000 : Int) ≤ 0 ∧ 0 ≤ (1000000 : Int) from ⟨by decide, by decide⟩
  · exact show (-1000000 : Int) ≤ 0 ∧ 0 ≤ (1000000 : Int) from ⟨by decide, by decide⟩
  · exact show (-1000000 : Int) ≤ 1 ∧ 1 ≤ (1000000 : Int) from ⟨by decide, by decide⟩
  · exact show (-1000000 : Int) ≤ (-1) ∧ (-1) ≤ (1000000 : Int) from ⟨by decide, by decide⟩
  · exact show (-1000000 : Int) ≤ R4 ∧ R4 ≤ (1000000 : Int) from ⟨by omega, by omega⟩
  · exact show (-1000000 : Int) ≤ (-c) ∧ (-c) ≤ (1000000 : Int) from ⟨by omega, by omega⟩
  · exact show (-1000000 : Int) ≤ 1 ∧ 1 ≤ (1000000 : Int) from ⟨by decide, by decide⟩
  · exact show (-1000000 : Int) ≤ 0 ∧ 0 ≤ (1000000 : Int) from ⟨by decide, by decide⟩
  · exact show (-1000000 : Int) ≤ 0 ∧ 0 ≤ (1000000 : Int) from ⟨by decide, by decide⟩
  · exact show (-1000000 : Int) ≤ W0 ∧ W0 ≤ (1000000 : Int) from ⟨by omega, by omega⟩
  · exact show (-1000000 : Int) ≤ 1 ∧ 1 ≤ (1000000 : Int) from ⟨by decide, by decide⟩
  · exact show (-1000000 : Int) ≤ 0 ∧ 0 ≤ (1000000 : Int) from ⟨by decide, by decide⟩
  · exact show (-1000000 : Int) ≤ 0 ∧ 0 ≤ (1000000 : Int) from ⟨by decide, by decide⟩
  · exact show (-1000000 : Int) ≤ 0 ∧ 0 ≤ (1000000 : Int) from ⟨by decide, by decide⟩
  · exact show (-1000000 : Int) ≤ W1 ∧ W1 ≤ (1000000 : Int) from ⟨by omega, by omega⟩
  · exact show (-1000000 : Int) ≤ 0 ∧ 0 ≤ (1000000 : Int) from ⟨by decide, by decide⟩
  · exact show (-1000000 : Int) ≤ 1 ∧ 1 ≤ (1000000 : Int) from ⟨by decide, by decide⟩
  · exact show (-1000000 : Int) ≤ 0 ∧ 0 ≤ (1000000 : Int) from ⟨by decide, by decide⟩
  · exact show (-1000000 : Int) ≤ 0 ∧ 0 ≤ (1000000 : Int) from ⟨by decide, by decide⟩
  · exact show (-1000000 : Int) ≤ W2 ∧ W2 ≤ (1000000 : Int) from ⟨by omega, by omega⟩
  · exact show (-1000000 : Int) ≤ 0 ∧ 0 ≤ (1000000 : Int) from ⟨by decide, by decide⟩
  · exact show (-1000000 : Int) ≤ 0 ∧ 0 ≤ (1000000 : Int) from ⟨by decide, by decide⟩
  · exact show (-1000000 : Int) ≤ 1 ∧ 1 ≤ (1000000 : Int) from ⟨by decide, by decide⟩
  · exact show (-1000000 : Int) ≤ 0 ∧ 0 ≤ (1000000 : Int) from ⟨by decide, by decide⟩
  · exact show (-1000000 : Int) ≤ W3 ∧ W3 ≤ (1000000 : Int) from ⟨by omega, by omega⟩
  · exact show (-1000000 : Int) ≤ 0 ∧ 0 ≤ (1000000 : Int) from ⟨by decide, by decide⟩
  · exact show (-1000000 : Int) ≤ 0 ∧ 0 ≤ (1000000 : Int) from ⟨by decide, by decide⟩
  · exact show (-1000000 : Int) ≤ 0 ∧ 0 ≤ (1000000 : Int) from ⟨by decide, by decide⟩
  · exact show (-1000000 : Int) ≤ 1 ∧ 1 ≤ (1000000 : Int) from ⟨by decide, by decide⟩
  · exact show (-1000000 : Int) ≤ 0 ∧ 0 ≤ (1000000 : Int) from ⟨by decide, by decide⟩
theorem ap_sD {p c R0 R1 R2 R3 R4 W0 W1 W2 W3 : Int} (h : ap_bd p c R0 R1 R2 R3 R4 W0 W1 W2 W3) : ∀ r c', r < 9 → c' < 5 → ap_s (ap_at (ap_MD p c R0 R1 R2 R3 R4 W0 W1 W2 W3) r c') := by
  obtain ⟨hp, hc, hR0, hR1, hR2, hR3, hR4, hW0, hW1, hW2, hW3, q1, q2, q3, q4, q5, q6, q7, q8, q9, q10, q11, q12⟩ := h
  refine ap_rc9 (ap_c5 ?_ ?_ ?_ ?_ ?_) (ap_c5 ?_ ?_ ?_ ?_ ?_) (ap_c5 ?_ ?_ ?_ ?_ ?_) (ap_c5 ?_ ?_ ?_ ?_ ?_) (ap_c5 ?_ ?_ ?_ ?_ ?_) (ap_c5 ?_ ?_ ?_ ?_ ?_) (ap_c5 ?_ ?_ ?_ ?_ ?_) (ap_c5 ?_ ?_ ?_ ?_ ?_) (ap_c5 ?_ ?_ ?_ ?_ ?_)
  · exact show (-1000000 : Int) ≤ (-p) ∧ (-p) ≤ (1000000 : Int) from ⟨by omega, by omega⟩
  · exact show (-1000000 : Int) ≤ 0 ∧ 0 ≤ (1000000 : Int) from ⟨by decide, by decide⟩
  · exact show (-1000000 : Int) ≤ 0 ∧ 0 ≤ (1000000 : Int) from ⟨by decide, by decide⟩
  · exact show (-1000000 : Int) ≤ 0 ∧ 0 ≤ (1000000 : Int) from ⟨by decide, by decide⟩
  · exact show (-1000000 : Int) ≤ R0 ∧ R0 ≤ (1000000 : Int) from ⟨by omega, by omega⟩
  · exact show (-1000000 : Int) ≤ (-1) ∧ (-1) ≤ (1000000 : Int) from ⟨by decide, by decide⟩
  · exact show (-1000000 : Int) ≤ (-1) ∧ (-1) ≤ (1000000 : Int) from ⟨by decide, by decide⟩
  · exact show (-1000000 : Int) ≤ 0 ∧ 0 ≤ (1000000 : Int) from ⟨by decide, by decide⟩
  · exact show (-1000000 : Int) ≤ 0 ∧ 0 ≤ (1000000 : Int) from ⟨by decide, by decide⟩
  · exact show (-1000000 : Int) ≤ R1 ∧ R1 ≤ (1000000 : Int) from ⟨by omega, by omega⟩
  · exact show (-1000000 : Int) ≤ 1 ∧ 1 ≤ (1000000 : Int) from ⟨by decide, by decide⟩
  · exact show (-1000000 : Int) ≤ 0 ∧ 0 ≤ (1000000 : Int) from ⟨by decide, by decide⟩
  · exact show (-1000000 : Int) ≤ 0 ∧ 0 ≤ (1000000 : Int) from ⟨by decide, by decide⟩
  · exact show (-1000000 : Int) ≤ 0 ∧ 0 ≤ (1000000 : Int) from ⟨by decide, by decide⟩
  · exact show (-1000000 : Int) ≤ R2 ∧ R2 ≤ (1000000 : Int) from ⟨by omega, by omega⟩
  · exact show (-1000000 : Int) ≤ 0 ∧ 0 ≤ (1000000 : Int) from ⟨by decide, by decide⟩
  · exact show (-1000000 : Int) ≤ 1 ∧ 1 ≤ (1000000 : Int) from ⟨by decide, by decide⟩
  · exact show (-1000000 : Int) ≤ 0 ∧ 0 ≤ (1000000 : Int) from ⟨by decide, by decide⟩
  · exact show (-1000000 : Int) ≤ 0 ∧ 0 ≤ (1000000 : Int) from ⟨by decide, by decide⟩
  · exact show (-1000000 : Int) ≤ R3 ∧ R3 ≤ (1000000 : Int) from ⟨by omega, by omega⟩
  · exact show (-1000000 : Int) ≤ 0 ∧ 0 ≤ (1000000 : Int) from ⟨by decide, by decide⟩
  · exact show (-1000000 : Int) ≤ 0 ∧ 0 ≤ (1000000 : Int) from ⟨by decide, by decide⟩
  · exact show (-1000000 : Int) ≤ 1 ∧ 1 ≤ (1000000 : Int) from ⟨by decide, by decide⟩
  · exact show (-1000000 : Int) ≤ 0 ∧ 0 ≤ (1000000 : Int) from ⟨by decide, by decide⟩
  · exact show (-1000000 : Int) ≤ R4 ∧ R4 ≤ (1000000 : Int) from ⟨by omega, by omega⟩
  · exact show (-1000000 : Int) ≤ c ∧ c ≤ (1000000 : Int) from ⟨by omega, by omega⟩
  · exact show (-1000000 : Int) ≤ 1 ∧ 1 ≤ (1000000 : Int) from ⟨by decide, by decide⟩
  · exact show (-1000000 : Int) ≤ 0 ∧ 0 ≤ (1000000 : Int) from ⟨by decide, by decide⟩
  · exact show (-1000000 : Int) ≤ 0 ∧ 0 ≤ (1000000 : Int) from ⟨by decide, by decide⟩
  · exact show (-1000000 : Int) ≤ W0 ∧ W0 ≤ (1000000 : Int) from ⟨by omega, by omega⟩
  · exact show (-1000000 : Int) ≤ (-1) ∧ (-1) ≤ (1000000 : Int) from ⟨by decide, by decide⟩
  · exact show (-1000000 : Int) ≤ 0 ∧ 0 ≤ (1000000 : Int) from ⟨by decide, by decide⟩
  · exact show (-1000000 : Int) ≤ 0 ∧ 0 ≤ (1000000 : Int) from ⟨by decide, by decide⟩
  · exact show (-1000000 : Int) ≤ 0 ∧ 0 ≤ (1000000 : Int) from ⟨by decide, by decide⟩
  · exact show (-1000000 : Int) ≤ W1 ∧ W1 ≤ (1000000 : Int) from ⟨by omega, by omega⟩
  · exact show (-1000000 : Int) ≤ 0 ∧ 0 ≤ (1000000 : Int) from ⟨by decide, by decide⟩
  · exact show (-1000000 : Int) ≤ 1 ∧ 1 ≤ (1000000 : Int) from ⟨by decide, by decide⟩
  · exact show (-1000000 : Int) ≤ 0 ∧ 0 ≤ (1000000 : Int) from ⟨by decide, by decide⟩
  · exact show (-1000000 : Int) ≤ 0 ∧ 0 ≤ (1000000 : Int) from ⟨by decide, by decide⟩
  · exact show (-1000000 : Int) ≤ W2 ∧ W2 ≤ (1000000 : Int) from ⟨by omega, by omega⟩
  · exact show (-1000000 : Int) ≤ 0 ∧ 0 ≤ (1000000 : Int) from ⟨by decide, by decide⟩
  · exact show (-1000000 : Int) ≤ 0 ∧ 0 ≤ (1000000 : Int) from ⟨by decide, by decide⟩
  · exact show (-1000000 : Int) ≤ 1 ∧ 1 ≤ (1000000 : Int) from ⟨by decide, by decide⟩
  · exact show (-1000000 : Int) ≤ 0 ∧ 0 ≤ (1000000 : Int) from ⟨by decide, by decide⟩
  · exact show (-1000000 : Int) ≤ W3 ∧ W3 ≤ (1000000 : Int) from ⟨by omega, by omega⟩
end
section
section
variable {f0_present : Int32}
variable {f0_without : Int32}
variable {f0_rows : Int32}
variable {f0_turned : Int32}
variable {f0_unit : Int64}
variable {f0_columns : Int32}
variable {f0_firstWorth : Int32}
variable {f0_worthCount : Int32}
variable {f0_worthTop : Int64}
variable {f0_worthBottom : Int64}
variable {f0_lines : Int32}
variable {f0_empty : Int32}
variable {f0_hasHigh : Int32}
variable {f0_highTop : Int64}
variable {f0_highBottom : Int64}
variable {f0_hasLow : Int32}
variable {f0_lowTop : Int64}
variable {f0_lowBottom : Int64}
variable {f0_branches : Int32}
variable {f0_leastThird : Int32}
variable {f0_greatestThird : Int32}
variable {a1 : Nat → Int32}
variable {a2 : Nat → Int32}
variable {a3 : Nat → Int32}
variable {a4 : Nat → Int32}
variable {a5 : Nat → Int32}
variable {a6 : Nat → Int32}
variable {a7 : Nat → Int32}
variable {a8 : Nat → Int32}
variable {a9 : Nat → Int32}
variable {a10 : Nat → Int64}
variable {a11 : Nat → Int32}
variable {a12 : Nat → Int32}
variable {a13 : Nat → Int64}
variable {a14 : Nat → Int64}
variable {a15 : Nat → Int64}
variable {a16 : Nat → Int64}
variable {a17 : Nat → Int64}
variable {a18 : Nat → Int32}
variable {a19 : Nat → Int32}
/-- a sum taken off, term by term -/
def ap_bs (b0 : Int) (nu ba : Nat → Int) : Nat → Int
  | 0 => b0
  | n + 1 => ap_bs b0 nu ba n - nu n * ba n
def ap_ba (dn : Nat → Bool) (l h : Nat → Int) (i : Nat) : Int := if dn i = true then h i else l i
def ap_sg (dn : Nat → Bool) (i : Nat) (x : Int) : Int := if dn i = true then -x else x
/-- which amounts are counted down -/
def ap_D (t : Int32) (dn : Nat → Bool) : Prop := ∀ i, i < 3 → ((t >>> (nI i &&& 31)) &&& 1 = 0 ↔ dn i = false)
def ap_V (a : Nat → Int32) (l : Nat → Int) : Prop := ∀ i, i < 3 → a i = ap_I (l i)
theorem ap_I1m (z : Int) : (1 : Int32) * ap_I z = ap_I z := by
  rw [← ap_I1, ap_Imul, Int.one_mul]
theorem ap_addRow {post : St2 → Prop} {k r : Nat} {nu l h : Nat → Int} {dn : Nat → Bool} {b0 : Int} (hk : k < 5) (hr : r < 16) (eR : f0_rows = nI r)
    (e1 : ∀ i, i < 3 → a1 (k * 3 + i) = ap_I (nu i)) (e3 : a3 k = ap_I b0) (e5 : ap_V a5 l) (e6 : ap_V a6 h) (ed : ap_D f0_turned dn)
    (H : ∀ a8' : Nat → Int32, (∀ i, i < 3 → a8' (r * 3 + i) = ap_I (ap_sg dn i (nu i))) → (∀ j, j < r * 3 → a8' j = a8 j) → post (f0_present, f0_without, (nI (r + 1)), f0_turned, f0_unit, f0_columns, f0_firstWorth, f0_worthCount, f0_worthTop, f0_worthBottom, f0_lines, f0_empty, f0_hasHigh, f0_highTop, f0_highBottom, f0_hasLow, f0_lowTop, f0_lowBottom, f0_branches, f0_leastThird, f0_greatestThird, a1, a2, a3, a4, a5, a6, a7, a8', (upd a9 r (ap_I (ap_bs b0 nu (ap_ba dn l h) 3))), a10, a11, a12, a13, a14, a15, a16, a17, a18, a19)) :
    wpX_addRow post (f0_present, f0_without, f0_rows, f0_turned, f0_unit, f0_columns, f0_firstWorth, f0_worthCount, f0_worthTop, f0_worthBottom, f0_lines, f0_empty, f0_hasHigh, f0_highTop, f0_highBottom, f0_hasLow, f0_lowTop, f0_lowBottom, f0_branches, f0_leastThird, f0_greatestThird, a1, a2, a3, a4, a5, a6, a7, a8, a9, a10, a11, a12, a13, a14, a15, a16, a17, a18, a19) (nI k) 1 := by
  subst eR
  refine ⟨pk_in k 5 hk, ?_⟩
  rw [pk_cl (x := nI k) k, e3, ap_I1m]
  refine nm_e ?_
  refine pk_loop (σ := Int32 × (Nat → Int32)) (fun n i s => wX_addRow_12 post (nI k) 1 f0_present f0_without (nI r) f0_turned f0_unit f0_columns f0_firstWorth f0_worthCount f0_worthTop f0_worthBottom f0_lines f0_empty f0_hasHigh f0_highTop f0_highBottom f0_hasLow f0_lowTop f0_lowBottom f0_branches f0_leastThird f0_greatestThird n s.1 (nI i) a1 a2 a3 a4 a5 a6 a7 s.2 a9 a10 a11 a12 a13 a14 a15 a16 a17 a18 a19) (fun i s => s.1 = ap_I (ap_bs b0 nu (ap_ba dn l h) i) ∧ (∀ j, j < i → s.2 (r * 3 + j) = ap_I (ap_sg dn j (nu j))) ∧ (∀ j, j < r * 3 → s.2 j = a8 j)) 3 0 (ap_I b0, a8) (by omega) ⟨rfl, fun j hj => absurd hj (by omega), fun j _ => rfl⟩ ?_ ?_
  · rintro n ⟨x, s⟩ ⟨q1, q2, q3⟩
    dsimp only at q1 q2 q3
    subst q1
    refine pk_le 3 3 (fun _ => ⟨pk_in r 16 hr, ?_⟩) (fun z => absurd z (by omega))
    rw [pk_cl (x := nI r) r]
    exact nm_e (nm_r (nI_1 r) (H s q2 q3))
  · rintro n i ⟨x, s⟩ hi ⟨q1, q2, q3⟩ hw
    dsimp only at q1 q2 q3
    subst q1
    have ei : nI k * 3 + nI i = nI (k * 3 + i) := ap_ix 3 k i
    have er : nI r * 3 + nI i = nI (r * 3 + i) := ap_ix 3 r i
    have fill : ∀ v : Int32, v = ap_I (ap_sg dn i (nu i)) → (∀ j, j < i + 1 → upd s (r * 3 + i) v (r * 3 + j) = ap_I (ap_sg dn j (nu j))) ∧ (∀ j, j < r * 3 → upd s (r * 3 + i) v j = a8 j) := by
      intro v ev
      refine ⟨fun j hj => ?_, fun j hj => ?_⟩
      · by_cases z : j = i
        · rw [z, pk_us, ev]
        · rw [pk_un (by omega), q2 j (by omega)]
      · rw [pk_un (by omega), q3 j hj]
    refine pk_le 3 i (fun z => absurd z (by omega)) (fun _ => ⟨pk_in (k * 3 + i) 15 (by omega) ei, ?_⟩)
    rw [pk_cl (k * 3 + i) ei, e1 i hi, ap_I1m]
    refine nm_e ?_
    cases hd : dn i with
    | false =>
      refine br_t ((ed i hi).mpr hd) (br_t rfl ⟨pk_in i 3 hi, ?_⟩)
      have e5' := e5 i hi
      rw [pk_cl (x := nI i) i, e5']
      refine nm_r (by rw [ap_Imul, ap_Isub]) (br_t rfl ⟨pk_in (r * 3 + i) 48 (by omega) er, ?_⟩)
      rw [pk_cl (r * 3 + i) er]
      refine nm_e (nm_r (nI_1 i) (hw (_, _) ⟨?_, fill _ ?_⟩))
      · show ap_I (ap_bs b0 nu (ap_ba dn l h) i - nu i * l i) = ap_I (ap_bs b0 nu (ap_ba dn l h) i - nu i * ap_ba dn l h i)
        unfold ap_ba
        rw [hd, if_neg (by decide)]
      · unfold ap_sg
        rw [hd, if_neg (by decide)]
    | true =>
      refine br_f (fun z => by rw [(ed i hi).mp z] at hd; exact absurd hd (by decide)) (br_f (by decide) ⟨pk_in i 3 hi, ?_⟩)
      have e6' := e6 i hi
      rw [pk_cl (x := nI i) i, e6']
      refine nm_r (by rw [ap_Imul, ap_Isub]) (br_f (by decide) ⟨pk_in (r * 3 + i) 48 (by omega) er, ?_⟩)
      rw [pk_cl (r * 3 + i) er]
      refine nm_e (nm_r (nI_1 i) (hw (_, _) ⟨?_, fill _ ?_⟩))
      · show ap_I (ap_bs b0 nu (ap_ba dn l h) i - nu i * h i) = ap_I (ap_bs b0 nu (ap_ba dn l h) i - nu i * ap_ba dn l h i)
        unfold ap_ba
        rw [hd, if_pos rfl]
      · unfold ap_sg
        rw [hd, if_pos rfl, ap_Ineg]
theorem ap_wr74 {post : St2 → Prop} {J67 : Int32 → Int32 → ap_JA} {i r : Nat} {l h : Nat → Int} (hi : i < 3) (hr : r < 16) (eR : f0_rows = nI r) (e5 : ap_V a5 l) (e6 : ap_V a6 h)
    (H : ∀ a8' : Nat → Int32, (∀ j, j < 3 → a8' (r * 3 + j) = ap_I (if i = j then 1 else 0)) → (∀ j, j < r * 3 → a8' j = a8 j) → J67 (nI (i + 1)) (nI (r + 1)) a1 a2 a3 a4 a5 a6 a7 a8' (upd a9 r (ap_I (h i - l i))) a10 a11 a12 a13 a14 a15 a16 a17 a18 a19) :
    ∃ n, wX_writeRows_74 post J67 (nI i) f0_present f0_without f0_rows f0_turned f0_unit f0_columns f0_firstWorth f0_worthCount f0_worthTop f0_worthBottom f0_lines f0_empty f0_hasHigh f0_highTop f0_highBottom f0_hasLow f0_lowTop f0_lowBottom f0_branches f0_leastThird f0_greatestThird n 0 a1 a2 a3 a4 a5 a6 a7 a8 a9 a10 a11 a12 a13 a14 a15 a16 a17 a18 a19 := by
  subst eR
  refine pk_loop (σ := Nat → Int32) (fun n j s => wX_writeRows_74 post J67 (nI i) f0_present f0_without (nI r) f0_turned f0_unit f0_columns f0_firstWorth f0_worthCount f0_worthTop f0_worthBottom f0_lines f0_empty f0_hasHigh f0_highTop f0_highBottom f0_hasLow f0_lowTop f0_lowBottom f0_branches f0_leastThird f0_greatestThird n (nI j) a1 a2 a3 a4 a5 a6 a7 s a9 a10 a11 a12 a13 a14 a15 a16 a17 a18 a19) (fun m s => (∀ j, j < m → s (r * 3 + j) = ap_I (if i = j then 1 else 0)) ∧ (∀ j, j < r * 3 → s j = a8 j)) 3 0 a8 (by omega) ⟨fun j hj => absurd hj (by omega), fun j _ => rfl⟩ ?_ ?_
  · rintro n s ⟨q2, q3⟩
    refine pk_le 3 3 (fun _ => ⟨pk_in i 3 hi, pk_in i 3 hi, pk_in r 16 hr, ?_⟩) (fun z => absurd z (by omega))
    rw [pk_cl (x := nI r) r, pk_cl (x := nI i) i, e5 i hi, e6 i hi, ap_Isub]
    exact nm_e (nm_r (nI_1 r) (nm_r (nI_1 i) (H s q2 q3)))
  · rintro n m s hm ⟨q2, q3⟩ hw
    have er : nI r * 3 + nI m = nI (r * 3 + m) := ap_ix 3 r m
    have fill : ∀ v : Int32, v = ap_I (if i = m then 1 else 0) → (∀ j, j < m + 1 → upd s (r * 3 + m) v (r * 3 + j) = ap_I (if i = j then 1 else 0)) ∧ (∀ j, j < r * 3 → upd s (r * 3 + m) v j = a8 j) := by
      intro v ev
      refine ⟨fun j hj => ?_, fun j hj => ?_⟩
      · by_cases z : j = m
        · rw [z, pk_us, ev]
        · rw [pk_un (by omega), q2 j (by omega)]
      · rw [pk_un (by omega), q3 j hj]
    refine pk_le 3 m (fun z => absurd z (by omega)) (fun _ => ?_)
    refine pk_eq i m (fun e => ⟨pk_in (r * 3 + m) 48 (by omega) er, ?_⟩) (fun e => ⟨pk_in (r * 3 + m) 48 (by omega) er, ?_⟩)
    · rw [pk_cl (r * 3 + m) er]
      exact nm_e (nm_r (nI_1 m) (hw _ (fill _ (by rw [if_pos e]; rfl))))
    · rw [pk_cl (r * 3 + m) er]
      exact nm_e (nm_r (nI_1 m) (hw _ (fill _ (by rw [if_neg e]; rfl))))
theorem ap_has {post : Int32 → Prop} {k : Nat} (hk : k < 5) (eP : f0_present = 3) (H1 : k < 2 → post 1) (H0 : 2 ≤ k → post 0) : wpX_has post (f0_present, f0_without, f0_rows, f0_turned, f0_unit, f0_columns, f0_firstWorth, f0_worthCount, f0_worthTop, f0_worthBottom, f0_lines, f0_empty, f0_hasHigh, f0_highTop, f0_highBottom, f0_hasLow, f0_lowTop, f0_lowBottom, f0_branches, f0_leastThird, f0_greatestThird, a1, a2, a3, a4, a5, a6, a7, a8, a9, a10, a11, a12, a13, a14, a15, a16, a17, a18, a19) (nI k) := by
  subst eP
  refine br_f (nI_pos (by omega)) (br_f (nI_ge (b := 5) hk (by decide)) ?_)
  have e0 : ((3 : Int32) >>> (nI 0 &&& 31)) &&& 1 = 1 := by decide
  have e1 : ((3 : Int32) >>> (nI 1 &&& 31)) &&& 1 = 1 := by decide
  have e2 : ((3 : Int32) >>> (nI 2 &&& 31)) &&& 1 = 0 := by decide
  have e3 : ((3 : Int32) >>> (nI 3 &&& 31)) &&& 1 = 0 := by decide
  have e4 : ((3 : Int32) >>> (nI 4 &&& 31)) &&& 1 = 0 := by decide
  match k, hk with
  | 0, _ => exact br_f (by rw [e0]; decide) (H1 (by omega))
  | 1, _ => exact br_f (by rw [e1]; decide) (H1 (by omega))
  | 2, _ => exact br_t e2 (H0 (by omega))
  | 3, _ => exact br_t e3 (H0 (by omega))
  | 4, _ => exact br_t e4 (H0 (by omega))
  | n + 5, h => exact absurd h (by omega)
/-- what stays: two conditions p x0 <= b, x0 - x1 <= 0, and the goal c x0 - x1 -/
def ap_K (p b c : Int) (f : Int32) (b1 b2 b3 b4 : Nat → Int32) : Prop :=
  f = 3 ∧ (∀ i, i < 3 → b1 (0 * 3 + i) = ap_I ([p, 0, 0].getD i 0)) ∧ (∀ i, i < 3 → b1 (1 * 3 + i) = ap_I ([1, -1, 0].getD i 0)) ∧ b2 0 = 0 ∧ b2 1 = 0 ∧ b3 0 = ap_I b ∧ b3 1 = ap_I 0 ∧ (∀ i, i < 3 → b4 i = ap_I ([c, -1, 0].getD i 0))
/-- the inequalities as written: numbers and bounds -/
def ap_W8 (a : Nat → Int32) (dn : Nat → Bool) (p : Int) : Prop :=
  (∀ i, i < 3 → a (0 * 3 + i) = ap_I (ap_sg dn i ([p, 0, 0].getD i 0))) ∧ (∀ i, i < 3 → a (1 * 3 + i) = ap_I (ap_sg dn i ([1, -1, 0].getD i 0))) ∧ (∀ k, k < 3 → ∀ i, i < 3 → a ((2 + k) * 3 + i) = ap_I (if k = i then 1 else 0))
def ap_W9 (a : Nat → Int32) (dn : Nat → Bool) (p b : Int) (l h : Nat → Int) : Prop :=
  a 0 = ap_I (ap_bs b (fun i => [p, 0, 0].getD i 0) (ap_ba dn l h) 3) ∧ a 1 = ap_I (ap_bs 0 (fun i => [1, -1, 0].getD i 0) (ap_ba dn l h) 3) ∧ (∀ k, k < 3 → a (2 + k) = ap_I (h k - l k))
theorem ap_writeRows {post : St2 → Prop} {p b c : Int} {l h : Nat → Int} {dn : Nat → Bool} (hK : ap_K p b c f0_present a1 a2 a3 a4) (eW : f0_without = -1) (e5 : ap_V a5 l) (e6 : ap_V a6 h) (ed : ap_D f0_turned dn)
    (H : ∀ a8' a9' : Nat → Int32, ap_W8 a8' dn p → ap_W9 a9' dn p b l h → post (f0_present, f0_without, (nI 5), f0_turned, f0_unit, f0_columns, f0_firstWorth, f0_worthCount, f0_worthTop, f0_worthBottom, f0_lines, f0_empty, f0_hasHigh, f0_highTop, f0_highBottom, f0_hasLow, f0_lowTop, f0_lowBottom, f0_branches, f0_leastThird, f0_greatestThird, a1, a2, a3, a4, a5, a6, a7, a8', a9', a10, a11, a12, a13, a14, a15, a16, a17, a18, a19)) : wpX_writeRows post (f0_present, f0_without, f0_rows, f0_turned, f0_unit, f0_columns, f0_firstWorth, f0_worthCount, f0_worthTop, f0_worthBottom, f0_lines, f0_empty, f0_hasHigh, f0_highTop, f0_highBottom, f0_hasLow, f0_lowTop, f0_lowBottom, f0_branches, f0_leastThird, f0_greatestThird, a1, a2, a3, a4, a5, a6, a7, a8, a9, a10, a11, a12, a13, a14, a15, a16, a17, a18, a19) := by
  obtain ⟨k0, k1, k2, k3, k4, k5, k6, k7⟩ := hK
  subst eW
  have nw : ∀ k, k < 5 → ¬ nI k = -1 := by
    intro k hk
    rw [ap_nI, ← ap_Im1, ap_Ieq ⟨by omega, by omega⟩ ⟨by omega, by omega⟩]
    omega
  refine ⟨6, ?_⟩
  refine br_f (by decide) (ap_has (k := 0) (by omega) k0 (fun _ => ?_) (fun z => absurd z (by omega)))
  refine br_f (by decide) (br_f (nw 0 (by omega)) ⟨pk_in 0 5 (by omega), ?_⟩)
  rw [pk_cl (x := (0 : Int32)) 0]
  refine br_f (by rw [k3]; decide) ?_
  refine ap_addRow (k := 0) (r := 0) (by omega) (by omega) rfl k1 k5 e5 e6 ed (fun b8 m1 m2 => ?_)
  refine ⟨pk_in 0 5 (by omega), ?_⟩
  rw [pk_cl (x := (0 : Int32)) 0]
  refine br_t k3 (nm_r (nI_1 0) ?_)
  refine br_f (by decide) (ap_has (k := 1) (by omega) k0 (fun _ => ?_) (fun z => absurd z (by omega)))
  refine br_f (by decide) (br_f (nw 1 (by omega)) ⟨pk_in 1 5 (by omega), ?_⟩)
  rw [pk_cl (x := nI (0 + 1)) 1]
  refine br_f (by rw [k4]; decide) ?_
  refine ap_addRow (k := 1) (r := 1) (by omega) (by omega) rfl k2 k6 e5 e6 ed (fun c8 m3 m4 => ?_)
  refine ⟨pk_in 1 5 (by omega), ?_⟩
  rw [pk_cl (x := nI (0 + 1)) 1]
  refine br_t k4 (nm_r (nI_1 1) ?_)
  refine br_f (by decide) (ap_has (k := 2) (by omega) k0 (fun z => absurd z (by omega)) (fun _ => br_t rfl (nm_r (nI_1 2) ?_)))
  refine br_f (by decide) (ap_has (k := 3) (by omega) k0 (fun z => absurd z (by omega)) (fun _ => br_t rfl (nm_r (nI_1 3) ?_)))
  refine br_f (by decide) (ap_has (k := 4) (by omega) k0 (fun z => absurd z (by omega)) (fun _ => br_t rfl (nm_r (nI_1 4) ?_)))
  refine br_t (by decide) ⟨4, ?_⟩
  refine br_f (by decide) (ap_wr74 (i := 0) (r := 2) (by omega) (by omega) rfl e5 e6 (fun d8 m5 m6 => ?_))
  refine br_f (by decide) (ap_wr74 (i := 1) (r := 3) (by omega) (by omega) rfl e5 e6 (fun e8 m7 m8 => ?_))
  refine br_f (by decide) (ap_wr74 (i := 2) (r := 4) (by omega) (by omega) rfl e5 e6 (fun f8 m9 m10 => ?_))
  refine br_t (by decide) (H f8 _ ⟨fun i hi => ?_, fun i hi => ?_, fun k hk i hi => ?_⟩ ⟨?_, ?_, fun k hk => ?_⟩)
  · rw [m10 _ (by omega), m8 _ (by omega), m6 _ (by omega), m4 _ (by omega), m1 i hi]
  · rw [m10 _ (by omega), m8 _ (by omega), m6 _ (by omega), m3 i hi]
  · match k, hk with
    | 0, _ => rw [m10 _ (by omega), m8 _ (by omega)]; exact m5 i hi
    | 1, _ => rw [m10 _ (by omega)]; exact m7 i hi
    | 2, _ => exact m9 i hi
    | n + 3, h => exact absurd h (by omega)
  · rw [pk_un (by omega), pk_un (by omega), pk_un (by omega), pk_un (by omega), pk_us]
  · rw [pk_un (by omega), pk_un (by omega), pk_un (by omega), pk_us]
  · match k, hk with
    | 0, _ => rw [pk_un (by omega), pk_un (by omega), pk_us]
    | 1, _ => rw [pk_un (by omega), pk_us]
    | 2, _ => rw [pk_us]
    | n + 3, h => exact absurd h (by omega)
end
end
section
section
variable {f0_present : Int32}
variable {f0_without : Int32}
variable {f0_rows : Int32}
variable {f0_turned : Int32}
variable {f0_unit : Int64}
variable {f0_columns : Int32}
variable {f0_firstWorth : Int32}
variable {f0_worthCount : Int32}
variable {f0_worthTop : Int64}
variable {f0_worthBottom : Int64}
variable {f0_lines : Int32}
variable {f0_empty : Int32}
variable {f0_hasHigh : Int32}
variable {f0_highTop : Int64}
variable {f0_highBottom : Int64}
variable {f0_hasLow : Int32}
variable {f0_lowTop : Int64}
variable {f0_lowBottom : Int64}
variable {f0_branches : Int32}
variable {f0_leastThird : Int32}
variable {f0_greatestThird : Int32}
variable {a1 : Nat → Int32}
variable {a2 : Nat → Int32}
variable {a3 : Nat → Int32}
variable {a4 : Nat → Int32}
variable {a5 : Nat → Int32}
variable {a6 : Nat → Int32}
variable {a7 : Nat → Int32}
variable {a8 : Nat → Int32}
variable {a9 : Nat → Int32}
variable {a10 : Nat → Int64}
variable {a11 : Nat → Int32}
variable {a12 : Nat → Int32}
variable {a13 : Nat → Int64}
variable {a14 : Nat → Int64}
variable {a15 : Nat → Int64}
variable {a16 : Nat → Int64}
variable {a17 : Nat → Int64}
variable {a18 : Nat → Int32}
variable {a19 : Nat → Int32}
theorem ap_su45 {post : St2 → Prop} {J25 : Int32 → ap_JA} {r : Nat} (hr : r < 5)
    (H : ∀ t' : Nat → Int64, (∀ j, j < r * 5 → t' j = a10 j) → (∀ i, i < 3 → t' (r * 5 + i) = (a8 (r * 3 + i)).toInt64) → t' (r * 5 + 3) = 0 → t' (r * 5 + 4) = (a9 r).toInt64 → J25 (nI (r + 1)) a1 a2 a3 a4 a5 a6 a7 a8 a9 t' a11 a12 a13 a14 a15 a16 a17 a18 a19) :
    ∃ n, wX_setUp_45 post J25 (nI r) f0_present f0_without f0_rows f0_turned f0_unit f0_columns f0_firstWorth f0_worthCount f0_worthTop f0_worthBottom f0_lines f0_empty f0_hasHigh f0_highTop f0_highBottom f0_hasLow f0_lowTop f0_lowBottom f0_branches f0_leastThird f0_greatestThird n 0 a1 a2 a3 a4 a5 a6 a7 a8 a9 a10 a11 a12 a13 a14 a15 a16 a17 a18 a19 := by
  refine pk_loop (σ := Nat → Int64) (fun n i t => wX_setUp_45 post J25 (nI r) f0_present f0_without f0_rows f0_turned f0_unit f0_columns f0_firstWorth f0_worthCount f0_worthTop f0_worthBottom f0_lines f0_empty f0_hasHigh f0_highTop f0_highBottom f0_hasLow f0_lowTop f0_lowBottom f0_branches f0_leastThird f0_greatestThird n (nI i) a1 a2 a3 a4 a5 a6 a7 a8 a9 t a11 a12 a13 a14 a15 a16 a17 a18 a19) (fun m t => (∀ j, j < r * 5 → t j = a10 j) ∧ (∀ i, i < m → t (r * 5 + i) = (a8 (r * 3 + i)).toInt64)) 3 0 a10 (by omega) ⟨fun j _ => rfl, fun i hi => absurd hi (by omega)⟩ ?_ ?_
  · rintro n t ⟨q1, q2⟩
    have e3 : nI r * 5 + 3 = nI (r * 5 + 3) := ap_ix 5 r 3
    have e4 : nI r * 5 + 4 = nI (r * 5 + 4) := ap_ix 5 r 4
    refine pk_le 3 3 (fun _ => ⟨pk_in (r * 5 + 3) 105 (by omega) e3, ?_⟩) (fun z => absurd z (by omega))
    rw [pk_cl (r * 5 + 3) e3]
    refine nm_e ⟨pk_in r 16 (by omega), pk_in (r * 5 + 4) 105 (by omega) e4, ?_⟩
    rw [pk_cl (r * 5 + 4) e4, pk_cl (x := nI r) r]
    refine nm_e (nm_r (nI_1 r) (H _ (fun j hj => ?_) (fun i hi => ?_) ?_ ?_))
    · rw [pk_uLn (by omega), pk_uLn (by omega), q1 j hj]
    · rw [pk_uLn (by omega), pk_uLn (by omega), q2 i hi]
    · rw [pk_uLn (by omega), pk_uLs]
    · rw [pk_uLs]
  · rintro n i t hi ⟨q1, q2⟩ hw
    have e3 : nI r * 3 + nI i = nI (r * 3 + i) := ap_ix 3 r i
    have e5 : nI r * 5 + nI i = nI (r * 5 + i) := ap_ix 5 r i
    refine pk_le 3 i (fun z => absurd z (by omega)) (fun _ => ⟨pk_in (r * 3 + i) 48 (by omega) e3, pk_in (r * 5 + i) 105 (by omega) e5, ?_⟩)
    rw [pk_cl (r * 3 + i) e3, pk_cl (r * 5 + i) e5]
    refine nm_e (nm_r (nI_1 i) (hw _ ⟨fun j hj => ?_, fun j hj => ?_⟩))
    · rw [pk_uLn (by omega), q1 j hj]
    · by_cases z : j = i
      · rw [z, pk_uLs]
      · rw [pk_uLn (by omega), q2 j (by omega)]
/-- the numbers of the worths' rows -/
def ap_nm (g : Nat → Int) (w i : Nat) : Int := if w = 0 then g i else if w = i + 1 then -1 else 0
def ap_ws (g : Nat → Int) (ba : Nat → Int) (w : Nat) : Nat → Int
  | 0 => 0
  | n + 1 => ap_ws g ba w n + ap_nm g w n * ba n
theorem ap_su149 {post : St2 → Prop} {J113 : Int32 → ap_JA} {w : Nat} {g l h : Nat → Int} {dn : Nat → Bool} (hw4 : w < 4) (e5 : ap_V a5 l) (e6 : ap_V a6 h) (e7 : ap_V a7 g) (ed : ap_D f0_turned dn)
    (hb : ∀ i, i < 3 → (-100 ≤ g i ∧ g i ≤ 100) ∧ (-100 ≤ ap_ba dn l h i ∧ ap_ba dn l h i ≤ 100))
    (z3 : a10 ((5 + w) * 5 + 3) = 0) (z4 : a10 ((5 + w) * 5 + 4) = 0)
    (H : ∀ t' : Nat → Int64, (∀ j, j < (5 + w) * 5 → t' j = a10 j) → (∀ i, i < 3 → t' ((5 + w) * 5 + i) = ap_L (-(ap_sg dn i (ap_nm g w i)))) → t' ((5 + w) * 5 + 3) = 0 → t' ((5 + w) * 5 + 4) = ap_L (ap_ws g (ap_ba dn l h) w 3) → J113 (nI (w + 1)) a1 a2 a3 a4 a5 a6 a7 a8 a9 t' a11 a12 a13 a14 a15 a16 a17 a18 a19) :
    ∃ n, wX_setUp_149 post J113 (nI w) (nI (5 + w)) f0_present f0_without f0_rows f0_turned f0_unit f0_columns f0_firstWorth f0_worthCount f0_worthTop f0_worthBottom f0_lines f0_empty f0_hasHigh f0_highTop f0_highBottom f0_hasLow f0_lowTop f0_lowBottom f0_branches f0_leastThird f0_greatestThird n 0 a1 a2 a3 a4 a5 a6 a7 a8 a9 a10 a11 a12 a13 a14 a15 a16 a17 a18 a19 := by
  refine pk_loop (σ := Nat → Int64) (fun n i t => wX_setUp_149 post J113 (nI w) (nI (5 + w)) f0_present f0_without f0_rows f0_turned f0_unit f0_columns f0_firstWorth f0_worthCount f0_worthTop f0_worthBottom f0_lines f0_empty f0_hasHigh f0_highTop f0_highBottom f0_hasLow f0_lowTop f0_lowBottom f0_branches f0_leastThird f0_greatestThird n (nI i) a1 a2 a3 a4 a5 a6 a7 a8 a9 t a11 a12 a13 a14 a15 a16 a17 a18 a19) (fun m t => (∀ j, j < (5 + w) * 5 → t j = a10 j) ∧ (∀ i, i < m → t ((5 + w) * 5 + i) = ap_L (-(ap_sg dn i (ap_nm g w i)))) ∧ t ((5 + w) * 5 + 3) = 0 ∧ t ((5 + w) * 5 + 4) = ap_L (ap_ws g (ap_ba dn l h) w m)) 3 0 a10 (by omega) ⟨fun j _ => rfl, fun i hi => absurd hi (by omega), z3, z4⟩ ?_ ?_
  · rintro n t ⟨q1, q2, q3, q4⟩
    exact pk_le 3 3 (fun _ => nm_r (nI_1 w) (H t q1 q2 q3 q4)) (fun z => absurd z (by omega))
  · rintro n i t hi ⟨q1, q2, q3, q4⟩ hw
    have e4 : nI (5 + w) * 5 + 4 = nI ((5 + w) * 5 + 4) := ap_ix 5 (5 + w) 4
    have ei : nI (5 + w) * 5 + nI i = nI ((5 + w) * 5 + i) := ap_ix 5 (5 + w) i
    obtain ⟨hg, hba⟩ := hb i hi
    have hnm : -100 ≤ ap_nm g w i ∧ ap_nm g w i ≤ 100 := by
      unfold ap_nm
      by_cases x : w = 0
      · rw [if_pos x]
        exact hg
      · rw [if_neg x]
        by_cases y : w = i + 1
        · rw [if_pos y]
          omega
        · rw [if_neg y]
          omega
    have hpr : -10000 ≤ ap_nm g w i * ap_ba dn l h i ∧ ap_nm g w i * ap_ba dn l h i ≤ 10000 := by
      have e : (ap_nm g w i * ap_ba dn l h i).natAbs ≤ 100 * 100 := by
        rw [Int.natAbs_mul]
        exact Nat.mul_le_mul (by omega) (by omega)
      omega
    refine pk_le 3 i (fun z => absurd z (by omega)) (fun _ => ?_)
    -- the last steps: store the number, add to the right
    have fin : ∀ (z0 : Int64), z0 = ap_L (-(ap_sg dn i (ap_nm g w i))) → wX_setUp_245 post J113 (wX_setUp_149 post J113 (nI w) (nI (5 + w)) f0_present f0_without f0_rows f0_turned f0_unit f0_columns f0_firstWorth f0_worthCount f0_worthTop f0_worthBottom f0_lines f0_empty f0_hasHigh f0_highTop f0_highBottom f0_hasLow f0_lowTop f0_lowBottom f0_branches f0_leastThird f0_greatestThird n) (nI w) (nI (5 + w)) (nI i) (ap_I (ap_nm g w i)) (ap_I (ap_ba dn l h i)) z0 (nI (5 + w) * 5 + nI i) f0_present f0_without f0_rows f0_turned f0_unit f0_columns f0_firstWorth f0_worthCount f0_worthTop f0_worthBottom f0_lines f0_empty f0_hasHigh f0_highTop f0_highBottom f0_hasLow f0_lowTop f0_lowBottom f0_branches f0_leastThird f0_greatestThird a1 a2 a3 a4 a5 a6 a7 a8 a9 t a11 a12 a13 a14 a15 a16 a17 a18 a19 := by
      intro z0 ez
      refine ⟨pk_in ((5 + w) * 5 + i) 105 (by omega) ei, ?_⟩
      rw [pk_cl ((5 + w) * 5 + i) ei]
      refine nm_e ⟨pk_in ((5 + w) * 5 + 4) 105 (by omega) e4, pk_in ((5 + w) * 5 + 4) 105 (by omega) e4, ?_⟩
      rw [pk_cl ((5 + w) * 5 + 4) e4]
      refine nm_e (nm_r (nI_1 i) (hw _ ⟨fun j hj => ?_, fun j hj => ?_, ?_, ?_⟩))
      · rw [pk_uLn (by omega), pk_uLn (by omega), q1 j hj]
      · rw [pk_uLn (by omega)]
        by_cases z : j = i
        · rw [z, pk_uLs, ez]
        · rw [pk_uLn (by omega), q2 j (by omega)]
      · rw [pk_uLn (by omega), pk_uLn (by omega), q3]
      · rw [pk_uLs, pk_uLn (by omega), q4, ap_Imul, ap_I64 (by omega) (by omega), ap_Ladd]
        rfl
    have mid : ∀ z0 : Int32, (dn i = false → z0 = 0) → (dn i = true → z0 = 1) → wX_setUp_170 post J113 (wX_setUp_149 post J113 (nI w) (nI (5 + w)) f0_present f0_without f0_rows f0_turned f0_unit f0_columns f0_firstWorth f0_worthCount f0_worthTop f0_worthBottom f0_lines f0_empty f0_hasHigh f0_highTop f0_highBottom f0_hasLow f0_lowTop f0_lowBottom f0_branches f0_leastThird f0_greatestThird n) (nI w) (nI (5 + w)) (nI i) z0 f0_present f0_without f0_rows f0_turned f0_unit f0_columns f0_firstWorth f0_worthCount f0_worthTop f0_worthBottom f0_lines f0_empty f0_hasHigh f0_highTop f0_highBottom f0_hasLow f0_lowTop f0_lowBottom f0_branches f0_leastThird f0_greatestThird a1 a2 a3 a4 a5 a6 a7 a8 a9 t a11 a12 a13 a14 a15 a16 a17 a18 a19 := by
      intro z0 h0 h1
      have tail : wX_setUp_197 post J113 (wX_setUp_149 post J113 (nI w) (nI (5 + w)) f0_present f0_without f0_rows f0_turned f0_unit f0_columns f0_firstWorth f0_worthCount f0_worthTop f0_worthBottom f0_lines f0_empty f0_hasHigh f0_highTop f0_highBottom f0_hasLow f0_lowTop f0_lowBottom f0_branches f0_leastThird f0_greatestThird n) (nI w) (nI (5 + w)) (nI i) z0 (ap_I (ap_nm g w i)) f0_present f0_without f0_rows f0_turned f0_unit f0_columns f0_firstWorth f0_worthCount f0_worthTop f0_worthBottom f0_lines f0_empty f0_hasHigh f0_highTop f0_highBottom f0_hasLow f0_lowTop f0_lowBottom f0_branches f0_leastThird f0_greatestThird a1 a2 a3 a4 a5 a6 a7 a8 a9 t a11 a12 a13 a14 a15 a16 a17 a18 a19 := by
        cases hd : dn i with
        | false =>
          rw [h0 hd]
          refine br_t rfl ⟨pk_in i 3 hi, ?_⟩
          have eb : ap_ba dn l h i = l i := by
            unfold ap_ba
            rw [hd, if_neg (by decide)]
          have es : ap_sg dn i (ap_nm g w i) = ap_nm g w i := by
            unfold ap_sg
            rw [hd, if_neg (by decide)]
          rw [pk_cl (x := nI i) i, e5 i hi, ← eb]
          refine br_t rfl (fin _ ?_)
          rw [es, ap_Ineg, ap_I64 (by omega) (by omega)]
        | true =>
          rw [h1 hd]
          refine br_f (by decide) ⟨pk_in i 3 hi, ?_⟩
          have eb : ap_ba dn l h i = h i := by
            unfold ap_ba
            rw [hd, if_pos rfl]
          have es : ap_sg dn i (ap_nm g w i) = -(ap_nm g w i) := by
            unfold ap_sg
            rw [hd, if_pos rfl]
          rw [pk_cl (x := nI i) i, e6 i hi, ← eb]
          refine br_f (by decide) (fin _ ?_)
          rw [es, Int.neg_neg, ap_I64 (by omega) (by omega)]
      refine pk_eq w 0 (fun x => ⟨pk_in i 3 hi, ?_⟩) (fun x => ?_)
      · rw [pk_cl (x := nI i) i, e7 i hi, show g i = ap_nm g w i from by unfold ap_nm; rw [if_pos x]]
        exact tail
      · have ew : nI w - 1 = nI (w - 1) := pk_sub (a := w) (b := 1) (by omega)
        refine pk_eq (w - 1) i (fun y => ?_) (fun y => ?_) ew
        · rw [show (-1 : Int32) = ap_I (ap_nm g w i) from by unfold ap_nm; rw [if_neg x, if_pos (by omega)]; rfl]
          exact tail
        · have e0 : (0 : Int32) = ap_I (ap_nm g w i) := by
            unfold ap_nm
            rw [if_neg x, if_neg (by omega)]
            rfl
          have tl := tail
          rw [← e0] at tl
          exact tl
    refine br_c (fun x => mid 0 (fun _ => rfl) (fun y => ?_)) (fun x => mid 1 (fun y => ?_) (fun _ => rfl))
    · rw [(ed i hi).mp x] at y
      exact absurd y (by decide)
    · exact absurd ((ed i hi).mpr y) x
/-- the table as it is set up -/
theorem ap_setUp {post : St2 → Prop} {g l h : Nat → Int} {dn : Nat → Bool} (eR : f0_rows = nI 5) (e5 : ap_V a5 l) (e6 : ap_V a6 h) (e7 : ap_V a7 g) (ed : ap_D f0_turned dn)
    (hb : ∀ i, i < 3 → (-100 ≤ g i ∧ g i ≤ 100) ∧ (-100 ≤ ap_ba dn l h i ∧ ap_ba dn l h i ≤ 100))
    (H : ∀ (t' : Nat → Int64) (b' c' : Nat → Int32),
      (∀ r, r < 5 → (∀ i, i < 3 → t' (r * 5 + i) = (a8 (r * 3 + i)).toInt64) ∧ t' (r * 5 + 3) = 0 ∧ t' (r * 5 + 4) = (a9 r).toInt64) →
      (∀ w, w < 4 → (∀ i, i < 3 → t' ((5 + w) * 5 + i) = ap_L (-(ap_sg dn i (ap_nm g w i)))) ∧ t' ((5 + w) * 5 + 3) = 0 ∧ t' ((5 + w) * 5 + 4) = ap_L (ap_ws g (ap_ba dn l h) w 3)) →
      ap_N b' [3, 4, 5, 6, 7] → ap_N c' [0, 1, 2] → post (f0_present, f0_without, (nI 5), f0_turned, 1, 3, (nI 5), 4, f0_worthTop, f0_worthBottom, f0_lines, f0_empty, f0_hasHigh, f0_highTop, f0_highBottom, f0_hasLow, f0_lowTop, f0_lowBottom, f0_branches, f0_leastThird, f0_greatestThird, a1, a2, a3, a4, a5, a6, a7, a8, a9, t', b', c', a13, a14, a15, a16, a17, a18, a19)) :
    wpX_setUp post (f0_present, f0_without, f0_rows, f0_turned, f0_unit, f0_columns, f0_firstWorth, f0_worthCount, f0_worthTop, f0_worthBottom, f0_lines, f0_empty, f0_hasHigh, f0_highTop, f0_highBottom, f0_hasLow, f0_lowTop, f0_lowBottom, f0_branches, f0_leastThird, f0_greatestThird, a1, a2, a3, a4, a5, a6, a7, a8, a9, a10, a11, a12, a13, a14, a15, a16, a17, a18, a19) := by
  subst eR
  refine pk_loop (σ := (Nat → Int64) × (Nat → Int32)) (fun n i s => wX_setUp_25 post f0_present f0_without (nI 5) f0_turned 1 3 (nI 5) 4 f0_worthTop f0_worthBottom f0_lines f0_empty f0_hasHigh f0_highTop f0_highBottom f0_hasLow f0_lowTop f0_lowBottom f0_branches f0_leastThird f0_greatestThird n (nI i) a1 a2 a3 a4 a5 a6 a7 a8 a9 s.1 s.2 a12 a13 a14 a15 a16 a17 a18 a19) (fun m s => (∀ r, r < m → (∀ i, i < 3 → s.1 (r * 5 + i) = (a8 (r * 3 + i)).toInt64) ∧ s.1 (r * 5 + 3) = 0 ∧ s.1 (r * 5 + 4) = (a9 r).toInt64) ∧ (∀ r, r < m → s.2 r = nI (3 + r))) 5 0 (a10, a11) (by omega) ⟨fun r hr => absurd hr (by omega), fun r hr => absurd hr (by omega)⟩ ?_ ?_
  · rintro n ⟨t, bn⟩ ⟨q1, q2⟩
    dsimp only at q1 q2
    refine pk_le 5 5 (fun _ => ?_) (fun z => absurd z (by omega))
    refine pk_loop (σ := Nat → Int64) (fun n i s => wX_setUp_113 post f0_present f0_without (nI 5) f0_turned 1 3 (nI 5) 4 f0_worthTop f0_worthBottom f0_lines f0_empty f0_hasHigh f0_highTop f0_highBottom f0_hasLow f0_lowTop f0_lowBottom f0_branches f0_leastThird f0_greatestThird n (nI i) a1 a2 a3 a4 a5 a6 a7 a8 a9 s bn a12 a13 a14 a15 a16 a17 a18 a19) (fun m s => (∀ j, j < 25 → s j = t j) ∧ (∀ w, w < m → (∀ i, i < 3 → s ((5 + w) * 5 + i) = ap_L (-(ap_sg dn i (ap_nm g w i)))) ∧ s ((5 + w) * 5 + 3) = 0 ∧ s ((5 + w) * 5 + 4) = ap_L (ap_ws g (ap_ba dn l h) w 3))) 4 0 t (by omega) ⟨fun j _ => rfl, fun r hr => absurd hr (by omega)⟩ ?_ ?_
    · rintro n s ⟨p1, p2⟩
      refine pk_le 4 4 (fun _ => ?_) (fun z => absurd z (by omega))
      refine ⟨4, ?_⟩
      refine br_f (by decide) ⟨pk_in 0 4 (by omega), ?_⟩
      rw [pk_cl (x := (0 : Int32)) 0]
      refine nm_e (nm_r (nI_1 0) ?_)
      refine br_f (by decide) ⟨pk_in 1 4 (by omega), ?_⟩
      rw [pk_cl (x := nI (0 + 1)) 1]
      refine nm_e (nm_r (nI_1 1) ?_)
      refine br_f (by decide) ⟨pk_in 2 4 (by omega), ?_⟩
      rw [pk_cl (x := nI (1 + 1)) 2]
      refine nm_e (nm_r (nI_1 2) ?_)
      refine br_t (by decide) (H s bn _ (fun r hr => ?_) p2 (fun i hi => ?_) (fun i hi => ?_))
      · obtain ⟨y1, y2, y3⟩ := q1 r hr
        exact ⟨fun i hi => by rw [p1 _ (by omega), y1 i hi], by rw [p1 _ (by omega), y2], by rw [p1 _ (by omega), y3]⟩
      · match i, hi with
        | 0, _ => exact ⟨q2 0 (by omega), by decide⟩
        | 1, _ => exact ⟨q2 1 (by omega), by decide⟩
        | 2, _ => exact ⟨q2 2 (by omega), by decide⟩
        | 3, _ => exact ⟨q2 3 (by omega), by decide⟩
        | 4, _ => exact ⟨q2 4 (by omega), by decide⟩
        | n + 5, hh => exact absurd hh (by simp)
      · match i, hi with
        | 0, _ => exact ⟨by rw [pk_un (by omega), pk_un (by omega), pk_us]; decide, by decide⟩
        | 1, _ => exact ⟨by rw [pk_un (by omega), pk_us]; decide, by decide⟩
        | 2, _ => exact ⟨by rw [pk_us]; decide, by decide⟩
        | n + 3, hh => exact absurd hh (by simp)
    · rintro n w s hw4 ⟨p1, p2⟩ hw
      have e3 : nI (5 + w) * 5 + 3 = nI ((5 + w) * 5 + 3) := ap_ix 5 (5 + w) 3
      have e4 : nI (5 + w) * 5 + 4 = nI ((5 + w) * 5 + 4) := ap_ix 5 (5 + w) 4
      refine pk_le 4 w (fun z => absurd z (by omega)) (fun _ => ?_)
      refine nm_r (nI_add 5 w) ⟨pk_in ((5 + w) * 5 + 3) 105 (by omega) e3, ?_⟩
      rw [pk_cl ((5 + w) * 5 + 3) e3]
      refine nm_e ⟨pk_in ((5 + w) * 5 + 4) 105 (by omega) e4, ?_⟩
      rw [pk_cl ((5 + w) * 5 + 4) e4]
      refine nm_e (ap_su149 hw4 e5 e6 e7 ed hb ?_ ?_ (fun t' y1 y2 y3 y4 => hw t' ⟨fun j hj => ?_, fun v hv => ?_⟩))
      · rw [pk_uLn (by omega), pk_uLs]
      · rw [pk_uLs]
      · rw [y1 j (by omega), pk_uLn (by omega), pk_uLn (by omega), p1 j hj]
      · by_cases z : v = w
        · subst z
          exact ⟨y2, y3, y4⟩
        · obtain ⟨x1, x2, x3⟩ := p2 v (by omega)
          refine ⟨fun i hi => ?_, ?_, ?_⟩
          · rw [y1 _ (by omega), pk_uLn (by omega), pk_uLn (by omega), x1 i hi]
          · rw [y1 _ (by omega), pk_uLn (by omega), pk_uLn (by omega), x2]
          · rw [y1 _ (by omega), pk_uLn (by omega), pk_uLn (by omega), x3]
  · rintro n r ⟨t, bn⟩ hr ⟨q1, q2⟩ hw
    dsimp only at q1 q2
    refine pk_le 5 r (fun z => absurd z (by omega)) (fun _ => ⟨pk_in r 16 (by omega), ?_⟩)
    rw [pk_cl (x := nI r) r]
    have e3 : (3 + nI r).toInt8.toInt32 = nI (3 + r) := by
      rw [show (3 + nI r : Int32) = nI (3 + r) from nI_add 3 r, ap_nI, ap_byte (by omega) (by omega)]
    rw [e3]
    refine nm_e (ap_su45 hr (fun t' y1 y2 y3 y4 => hw (t', upd bn r (nI (3 + r))) ⟨fun v hv => ?_, fun v hv => ?_⟩))
    · by_cases z : v = r
      · subst z
        exact ⟨y2, y3, y4⟩
      · obtain ⟨x1, x2, x3⟩ := q1 v (by omega)
        refine ⟨fun i hi => ?_, ?_, ?_⟩
        · exact (y1 _ (by omega)).trans (x1 i hi)
        · exact (y1 _ (by omega)).trans x2
        · exact (y1 _ (by omega)).trans x3
    · by_cases z : v = r
      · subst z
        exact pk_us
      · show upd bn r _ v = _
        rw [pk_un z, q2 v (by omega)]
end
end
section
section
variable {f0_present : Int32}
variable {f0_without : Int32}
variable {f0_rows : Int32}
variable {f0_turned : Int32}
variable {f0_unit : Int64}
variable {f0_columns : Int32}
variable {f0_firstWorth : Int32}
variable {f0_worthCount : Int32}
variable {f0_worthTop : Int64}
variable {f0_worthBottom : Int64}
variable {f0_lines : Int32}
variable {f0_empty : Int32}
variable {f0_hasHigh : Int32}
variable {f0_highTop : Int64}
variable {f0_highBottom : Int64}
variable {f0_hasLow : Int32}
variable {f0_lowTop : Int64}
variable {f0_lowBottom : Int64}
variable {f0_branches : Int32}
variable {f0_leastThird : Int32}
variable {f0_greatestThird : Int32}
variable {a1 : Nat → Int32}
variable {a2 : Nat → Int32}
variable {a3 : Nat → Int32}
variable {a4 : Nat → Int32}
variable {a5 : Nat → Int32}
variable {a6 : Nat → Int32}
variable {a7 : Nat → Int32}
variable {a8 : Nat → Int32}
variable {a9 : Nat → Int32}
variable {a10 : Nat → Int64}
variable {a11 : Nat → Int32}
variable {a12 : Nat → Int32}
variable {a13 : Nat → Int64}
variable {a14 : Nat → Int64}
variable {a15 : Nat → Int64}
variable {a16 : Nat → Int64}
variable {a17 : Nat → Int64}
variable {a18 : Nat → Int32}
variable {a19 : Nat → Int32}
theorem ap_askWhole {post : St2 → Prop} (H : ∀ a5' a6' : Nat → Int32, ap_V a5' (fun _ => 0) → ap_V a6' (fun _ => 20) → post (f0_present, (-1), f0_rows, f0_turned, f0_unit, f0_columns, f0_firstWorth, f0_worthCount, f0_worthTop, f0_worthBottom, f0_lines, f0_empty, f0_hasHigh, f0_highTop, f0_highBottom, f0_hasLow, f0_lowTop, f0_lowBottom, f0_branches, f0_leastThird, f0_greatestThird, a1, a2, a3, a4, a5', a6', a7, a8, a9, a10, a11, a12, a13, a14, a15, a16, a17, a18, a19)) : wpX_askWhole post (f0_present, f0_without, f0_rows, f0_turned, f0_unit, f0_columns, f0_firstWorth, f0_worthCount, f0_worthTop, f0_worthBottom, f0_lines, f0_empty, f0_hasHigh, f0_highTop, f0_highBottom, f0_hasLow, f0_lowTop, f0_lowBottom, f0_branches, f0_leastThird, f0_greatestThird, a1, a2, a3, a4, a5, a6, a7, a8, a9, a10, a11, a12, a13, a14, a15, a16, a17, a18, a19) := by
  refine pk_loop (σ := (Nat → Int32) × (Nat → Int32)) (fun n i s => wX_askWhole_7 post f0_present (-1) f0_rows f0_turned f0_unit f0_columns f0_firstWorth f0_worthCount f0_worthTop f0_worthBottom f0_lines f0_empty f0_hasHigh f0_highTop f0_highBottom f0_hasLow f0_lowTop f0_lowBottom f0_branches f0_leastThird f0_greatestThird n (nI i) a1 a2 a3 a4 s.1 s.2 a7 a8 a9 a10 a11 a12 a13 a14 a15 a16 a17 a18 a19) (fun m s => (∀ i, i < m → s.1 i = ap_I 0) ∧ (∀ i, i < m → s.2 i = ap_I 20)) 3 0 (a5, a6) (by omega) ⟨fun i hi => absurd hi (by omega), fun i hi => absurd hi (by omega)⟩ ?_ ?_
  · rintro n ⟨s, t⟩ ⟨q1, q2⟩
    exact pk_le 3 3 (fun _ => H s t q1 q2) (fun z => absurd z (by omega))
  · rintro n i ⟨s, t⟩ hi ⟨q1, q2⟩ hw
    dsimp only at q1 q2
    refine pk_le 3 i (fun z => absurd z (by omega)) (fun _ => ⟨pk_in i 3 hi, ?_⟩)
    rw [pk_cl (x := nI i) i]
    refine nm_e ⟨pk_in i 3 hi, nm_e (nm_r (nI_1 i) (hw (_, _) ⟨fun j hj => ?_, fun j hj => ?_⟩))⟩
    · by_cases z : j = i
      · rw [z]
        exact pk_us
      · exact (pk_un z).trans (q1 j (by omega))
    · by_cases z : j = i
      · rw [z]
        exact pk_us
      · exact (pk_un z).trans (q2 j (by omega))
theorem ap_askGoal {post : St2 → Prop} {g : Nat → Int} (e4 : ap_V a4 g) (hg : ∀ i, i < 3 → -100 ≤ g i ∧ g i ≤ 100) (H : ∀ a7' : Nat → Int32, ap_V a7' g → post (f0_present, f0_without, f0_rows, f0_turned, f0_unit, f0_columns, f0_firstWorth, f0_worthCount, f0_worthTop, f0_worthBottom, f0_lines, f0_empty, f0_hasHigh, f0_highTop, f0_highBottom, f0_hasLow, f0_lowTop, f0_lowBottom, f0_branches, f0_leastThird, f0_greatestThird, a1, a2, a3, a4, a5, a6, a7', a8, a9, a10, a11, a12, a13, a14, a15, a16, a17, a18, a19)) : wpX_askGoal post (f0_present, f0_without, f0_rows, f0_turned, f0_unit, f0_columns, f0_firstWorth, f0_worthCount, f0_worthTop, f0_worthBottom, f0_lines, f0_empty, f0_hasHigh, f0_highTop, f0_highBottom, f0_hasLow, f0_lowTop, f0_lowBottom, f0_branches, f0_leastThird, f0_greatestThird, a1, a2, a3, a4, a5, a6, a7, a8, a9, a10, a11, a12, a13, a14, a15, a16, a17, a18, a19) := by
  refine pk_loop (σ := Nat → Int32) (fun n i s => wX_askGoal_2 post f0_present f0_without f0_rows f0_turned f0_unit f0_columns f0_firstWorth f0_worthCount f0_worthTop f0_worthBottom f0_lines f0_empty f0_hasHigh f0_highTop f0_highBottom f0_hasLow f0_lowTop f0_lowBottom f0_branches f0_leastThird f0_greatestThird n (nI i) a1 a2 a3 a4 a5 a6 s a8 a9 a10 a11 a12 a13 a14 a15 a16 a17 a18 a19) (fun m s => ∀ i, i < m → s i = ap_I (g i)) 3 0 a7 (by omega) (fun i hi => absurd hi (by omega)) ?_ ?_
  · intro n s q1
    exact pk_le 3 3 (fun _ => H s q1) (fun z => absurd z (by omega))
  · intro n i s hi q1 hw
    refine pk_le 3 i (fun z => absurd z (by omega)) (fun _ => ⟨pk_in i 3 hi, pk_in i 3 hi, ?_⟩)
    obtain ⟨g1, g2⟩ := hg i hi
    rw [pk_cl (x := nI i) i, e4 i hi, ap_nar (by omega) (by omega)]
    refine nm_e (nm_r (nI_1 i) (hw _ (fun j hj => ?_)))
    by_cases z : j = i
    · rw [z]
      exact pk_us
    · exact (pk_un z).trans (q1 j (by omega))
/-- what is read off for a name -/
def ap_own (M : List (List Int)) (rn : List Nat) (i : Nat) : Nat → Int
  | 0 => 0
  | r + 1 => if rn.getD r 0 = i then ap_at M r 4 else ap_own M rn i r
def ap_top (dn : Nat → Bool) (l h : Nat → Int) (u : Int) (M : List (List Int)) (rn : List Nat) (i : Nat) : Int := if dn i = true then h i * u - ap_own M rn i 5 else l i * u + ap_own M rn i 5
theorem ap_readOff {post : St2 → Prop} {ncol fw wc : Nat} {u : Int} {M : List (List Int)} {rn cn : List Nat} {l h : Nat → Int} {dn : Nat → Bool} (g : ap_G 5 ncol fw wc u M rn cn f0_rows f0_columns f0_firstWorth f0_worthCount f0_unit a10 a11 a12) (hwc : 1 ≤ wc)
    (e5 : ap_V a5 l) (e6 : ap_V a6 h) (ed : ap_D f0_turned dn) (hl : ∀ i, i < 3 → -100 ≤ l i ∧ l i ≤ 100) (hh : ∀ i, i < 3 → -100 ≤ h i ∧ h i ≤ 100)
    (H : ∀ a13' : Nat → Int64, (∀ i, i < 3 → a13' i = ap_L (ap_top dn l h u M rn i)) → post (f0_present, f0_without, f0_rows, f0_turned, f0_unit, f0_columns, f0_firstWorth, f0_worthCount, (ap_L (ap_at M fw 4)), (ap_L u), f0_lines, f0_empty, f0_hasHigh, f0_highTop, f0_highBottom, f0_hasLow, f0_lowTop, f0_lowBottom, f0_branches, f0_leastThird, f0_greatestThird, a1, a2, a3, a4, a5, a6, a7, a8, a9, a10, a11, a12, a13', a14, a15, a16, a17, a18, a19)) : wpX_readOff post (f0_present, f0_without, f0_rows, f0_turned, f0_unit, f0_columns, f0_firstWorth, f0_worthCount, f0_worthTop, f0_worthBottom, f0_lines, f0_empty, f0_hasHigh, f0_highTop, f0_highBottom, f0_hasLow, f0_lowTop, f0_lowBottom, f0_branches, f0_leastThird, f0_greatestThird, a1, a2, a3, a4, a5, a6, a7, a8, a9, a10, a11, a12, a13, a14, a15, a16, a17, a18, a19) := by
  obtain ⟨⟨g1, g2, g3, g4, g5⟩, ⟨g6, g7⟩, ⟨g8, g9, g10, g11, g12, g13⟩, g14, g15, g16⟩ := g
  subst g5
  unfold wpX_readOff
  refine ap_cell fw 4 (by omega) ?_ g3
  rw [(g14 fw 4 (by omega) (by omega)).1]
  refine pk_loop (σ := Nat → Int64) (fun n i s => wX_readOff_23 post f0_present f0_without f0_rows f0_turned (ap_L u) f0_columns f0_firstWorth f0_worthCount (ap_L (ap_at M fw 4)) (ap_L u) f0_lines f0_empty f0_hasHigh f0_highTop f0_highBottom f0_hasLow f0_lowTop f0_lowBottom f0_branches f0_leastThird f0_greatestThird n (nI i) a1 a2 a3 a4 a5 a6 a7 a8 a9 a10 a11 a12 s a14 a15 a16 a17 a18 a19) (fun m s => ∀ i, i < m → s i = ap_L (ap_top dn l h u M rn i)) 3 0 a13 (by omega) (fun i hi => absurd hi (by omega)) ?_ ?_
  · intro n s q1
    exact pk_le 3 3 (fun _ => H s q1) (fun z => absurd z (by omega))
  · intro n i s hi q1 hw
    refine pk_le 3 i (fun z => absurd z (by omega)) (fun _ => ?_)
    obtain ⟨l1, l2⟩ := hl i hi
    obtain ⟨h1, h2⟩ := hh i hi
    refine pk_loop (σ := Int64) (fun m r x => wX_readOff_33 post (wX_readOff_23 post f0_present f0_without f0_rows f0_turned (ap_L u) f0_columns f0_firstWorth f0_worthCount (ap_L (ap_at M fw 4)) (ap_L u) f0_lines f0_empty f0_hasHigh f0_highTop f0_highBottom f0_hasLow f0_lowTop f0_lowBottom f0_branches f0_leastThird f0_greatestThird n) (nI i) f0_present f0_without f0_rows f0_turned (ap_L u) f0_columns f0_firstWorth f0_worthCount (ap_L (ap_at M fw 4)) (ap_L u) f0_lines f0_empty f0_hasHigh f0_highTop f0_highBottom f0_hasLow f0_lowTop f0_lowBottom f0_branches f0_leastThird f0_greatestThird a1 a2 a3 a4 a5 a6 a7 a8 a9 a10 a11 a12 s a14 a15 a16 a17 a18 a19 m x (nI r)) (fun r x => x = ap_L (ap_own M rn i r)) 5 0 0 (by omega) rfl ?_ ?_
    · intro m x ex
      subst ex
      refine pk_le 5 5 (fun _ => ?_) (fun z => absurd z (by omega)) g1
      have fill : ∀ v : Int64, v = ap_L (ap_top dn l h u M rn i) → ∀ j, j < i + 1 → vp_updL s i v j = ap_L (ap_top dn l h u M rn j) := by
        intro v ev j hj
        by_cases z : j = i
        · rw [z, pk_uLs, ev]
        · rw [pk_uLn z, q1 j (by omega)]
      cases hd : dn i with
      | false =>
        refine br_t ((ed i hi).mpr hd) (br_t rfl ⟨pk_in i 3 hi, pk_in i 3 hi, ?_⟩)
        rw [pk_cl (x := nI i) i, e5 i hi, ap_I64 (by omega) (by omega), ap_Lmul, ap_Ladd]
        refine nm_e (nm_r (nI_1 i) (hw _ (fill _ ?_)))
        unfold ap_top
        rw [hd, if_neg (by decide)]
      | true =>
        refine br_f (fun z => by rw [(ed i hi).mp z] at hd; exact absurd hd (by decide)) (br_f (by decide) ⟨pk_in i 3 hi, pk_in i 3 hi, ?_⟩)
        rw [pk_cl (x := nI i) i, e6 i hi, ap_I64 (by omega) (by omega), ap_Lmul, ap_Lsub]
        refine nm_e (nm_r (nI_1 i) (hw _ (fill _ ?_)))
        unfold ap_top
        rw [hd, if_pos rfl]
    · intro m r x hr ex hv
      subst ex
      refine pk_le 5 r (fun z => absurd z (by omega)) (fun _ => ⟨pk_in r 16 (by omega), ?_⟩) g1
      obtain ⟨n1, n2⟩ := g15 r (by omega)
      rw [pk_cl (x := nI r) r, n1]
      refine pk_eq (rn.getD r 0) i (fun z => ?_) (fun z => nm_r (nI_1 r) (hv _ ?_)) rfl rfl (by omega) (by omega)
      · refine ap_cell r 4 (by omega) (nm_r (nI_1 r) (hv _ ?_))
        rw [(g14 r 4 (by omega) (by omega)).1]
        show ap_L (ap_at M r 4) = ap_L (if rn.getD r 0 = i then ap_at M r 4 else ap_own M rn i r)
        rw [if_pos z]
      · show ap_L (ap_own M rn i r) = ap_L (if rn.getD r 0 = i then ap_at M r 4 else ap_own M rn i r)
        rw [if_neg z]
end
end
section
theorem ap_eAT {p c R0 R1 R2 R3 R4 W0 W1 W2 W3 : Int} (hp : 1 ≤ p ∧ p ≤ 7) (hc : 2 ≤ c ∧ c ≤ 5) : ap_hT (ap_MA p c R0 R1 R2 R3 R4 W0 W1 W2 W3) 5 4 0 := ⟨0, by decide, fun v hv => absurd hv (by omega), show (-c) < (0 : Int) by omega⟩
theorem ap_eAF {p c R0 R1 R2 R3 R4 W0 W1 W2 W3 : Int} (hp : 1 ≤ p ∧ p ≤ 7) (hc : 2 ≤ c ∧ c ≤ 5) : ∀ c', c' < 3 → c' ≠ 0 → ¬ ap_hT (ap_MA p c R0 R1 R2 R3 R4 W0 W1 W2 W3) 5 4 c' := by
  intro c' hc' hne
  match c', hc', hne with
  | 0, _, hne => exact absurd rfl hne
  | 1, _, _ => exact ap_hFp 0 (fun v hv => absurd hv (by omega)) (show (0 : Int) < 1 by decide)
  | 2, _, _ => exact ap_hFp 3 (fun v hv => co_3 (P := fun v => ap_at (ap_MA p c R0 R1 R2 R3 R4 W0 W1 W2 W3) (5 + v) 2 = 0) rfl rfl rfl hv) (show (0 : Int) < 1 by decide)
  | n + 3, h, _ => exact absurd h (by omega)
theorem ap_lA10 {p c R0 R1 R2 R3 R4 W0 W1 W2 W3 : Int} (hp : 1 ≤ p ∧ p ≤ 7) (hc : 2 ≤ c ∧ c ≤ 5) (h1 : R1 * p < R0) (h2 : R1 ≤ R2) : ∀ r, r < 5 → r ≠ 1 → 0 < ap_at (ap_MA p c R0 R1 R2 R3 R4 W0 W1 W2 W3) r 0 → ap_at (ap_MA p c R0 R1 R2 R3 R4 W0 W1 W2 W3) 1 4 * ap_at (ap_MA p c R0 R1 R2 R3 R4 W0 W1 W2 W3) r 0 < ap_at (ap_MA p c R0 R1 R2 R3 R4 W0 W1 W2 W3) r 4 * ap_at (ap_MA p c R0 R1 R2 R3 R4 W0 W1 W2 W3) 1 0 ∨ (ap_at (ap_MA p c R0 R1 R2 R3 R4 W0 W1 W2 W3) 1 4 * ap_at (ap_MA p c R0 R1 R2 R3 R4 W0 W1 W2 W3) r 0 = ap_at (ap_MA p c R0 R1 R2 R3 R4 W0 W1 W2 W3) r 4 * ap_at (ap_MA p c R0 R1 R2 R3 R4 W0 W1 W2 W3) 1 0 ∧ ([3, 4, 5, 6, 7] : List Nat).getD 1 0 < ([3, 4, 5, 6, 7] : List Nat).getD r 0) := by
  intro r hr hne hpos
  match r, hr, hne, hpos with
  | 0, _, _, _ =>
    have q1 : R1 * p = R1 * p := by grind
    have q2 : R0 * 1 = R0 := by grind
    show R1 * p < R0 * 1 ∨ (R1 * p = R0 * 1 ∧ (4 : Nat) < 3)
    omega
  | 1, _, hne, _ => exact absurd rfl hne
  | 2, _, _, _ =>
    have q1 : R1 * 1 = R1 := by grind
    have q2 : R2 * 1 = R2 := by grind
    show R1 * 1 < R2 * 1 ∨ (R1 * 1 = R2 * 1 ∧ (4 : Nat) < 5)
    omega
  | 3, _, _, hpos => exact absurd hpos (show ¬ (0 : Int) < 0 by decide)
  | 4, _, _, hpos => exact absurd hpos (show ¬ (0 : Int) < 0 by decide)
  | n + 5, h, _, _ => exact absurd h (by omega)
theorem ap_lA0 {p c R0 R1 R2 R3 R4 W0 W1 W2 W3 : Int} (hp : 1 ≤ p ∧ p ≤ 7) (hc : 2 ≤ c ∧ c ≤ 5) (h1 : R0 ≤ R1 * p) (h2 : R0 ≤ R2 * p) : ∀ r, r < 5 → r ≠ 0 → 0 < ap_at (ap_MA p c R0 R1 R2 R3 R4 W0 W1 W2 W3) r 0 → ap_at (ap_MA p c R0 R1 R2 R3 R4 W0 W1 W2 W3) 0 4 * ap_at (ap_MA p c R0 R1 R2 R3 R4 W0 W1 W2 W3) r 0 < ap_at (ap_MA p c R0 R1 R2 R3 R4 W0 W1 W2 W3) r 4 * ap_at (ap_MA p c R0 R1 R2 R3 R4 W0 W1 W2 W3) 0 0 ∨ (ap_at (ap_MA p c R0 R1 R2 R3 R4 W0 W1 W2 W3) 0 4 * ap_at (ap_MA p c R0 R1 R2 R3 R4 W0 W1 W2 W3) r 0 = ap_at (ap_MA p c R0 R1 R2 R3 R4 W0 W1 W2 W3) r 4 * ap_at (ap_MA p c R0 R1 R2 R3 R4 W0 W1 W2 W3) 0 0 ∧ ([3, 4, 5, 6, 7] : List Nat).getD 0 0 < ([3, 4, 5, 6, 7] : List Nat).getD r 0) := by
  intro r hr hne hpos
  match r, hr, hne, hpos with
  | 0, _, hne, _ => exact absurd rfl hne
  | 1, _, _, _ =>
    have q1 : R0 * 1 = R0 := by grind
    have q2 : R1 * p = R1 * p := by grind
    show R0 * 1 < R1 * p ∨ (R0 * 1 = R1 * p ∧ (3 : Nat) < 4)
    omega
  | 2, _, _, _ =>
    have q1 : R0 * 1 = R0 := by grind
    have q2 : R2 * p = R2 * p := by grind
    show R0 * 1 < R2 * p ∨ (R0 * 1 = R2 * p ∧ (3 : Nat) < 5)
    omega
  | 3, _, _, hpos => exact absurd hpos (show ¬ (0 : Int) < 0 by decide)
  | 4, _, _, hpos => exact absurd hpos (show ¬ (0 : Int) < 0 by decide)
  | n + 5, h, _, _ => exact absurd h (by omega)
theorem ap_eA10T {p c R0 R1 R2 R3 R4 W0 W1 W2 W3 : Int} (hp : 1 ≤ p ∧ p ≤ 7) (hc : 2 ≤ c ∧ c ≤ 5) : ap_hT (ap_MA10 p c R0 R1 R2 R3 R4 W0 W1 W2 W3) 5 4 1 := ⟨0, by decide, fun v hv => absurd hv (by omega), show (1 - c) < (0 : Int) by omega⟩
theorem ap_eA10F {p c R0 R1 R2 R3 R4 W0 W1 W2 W3 : Int} (hp : 1 ≤ p ∧ p ≤ 7) (hc : 2 ≤ c ∧ c ≤ 5) : ∀ c', c' < 3 → c' ≠ 1 → ¬ ap_hT (ap_MA10 p c R0 R1 R2 R3 R4 W0 W1 W2 W3) 5 4 c' := by
  intro c' hc' hne
  match c', hc', hne with
  | 0, _, _ => exact ap_hFp 0 (fun v hv => absurd hv (by omega)) (show (0 : Int) < c by omega)
  | 1, _, hne => exact absurd rfl hne
  | 2, _, _ => exact ap_hFp 3 (fun v hv => co_3 (P := fun v => ap_at (ap_MA10 p c R0 R1 R2 R3 R4 W0 W1 W2 W3) (5 + v) 2 = 0) rfl rfl rfl hv) (show (0 : Int) < 1 by decide)
  | n + 3, h, _ => exact absurd h (by omega)
theorem ap_lA1 {p c R0 R1 R2 R3 R4 W0 W1 W2 W3 : Int} (hp : 1 ≤ p ∧ p ≤ 7) (hc : 2 ≤ c ∧ c ≤ 5) (h1 : R0 ≤ R2 * p) (h2 : R0 - R1 * p ≤ R3 * p) : ∀ r, r < 5 → r ≠ 0 → 0 < ap_at (ap_MA10 p c R0 R1 R2 R3 R4 W0 W1 W2 W3) r 1 → ap_at (ap_MA10 p c R0 R1 R2 R3 R4 W0 W1 W2 W3) 0 4 * ap_at (ap_MA10 p c R0 R1 R2 R3 R4 W0 W1 W2 W3) r 1 < ap_at (ap_MA10 p c R0 R1 R2 R3 R4 W0 W1 W2 W3) r 4 * ap_at (ap_MA10 p c R0 R1 R2 R3 R4 W0 W1 W2 W3) 0 1 ∨ (ap_at (ap_MA10 p c R0 R1 R2 R3 R4 W0 W1 W2 W3) 0 4 * ap_at (ap_MA10 p c R0 R1 R2 R3 R4 W0 W1 W2 W3) r 1 = ap_at (ap_MA10 p c R0 R1 R2 R3 R4 W0 W1 W2 W3) r 4 * ap_at (ap_MA10 p c R0 R1 R2 R3 R4 W0 W1 W2 W3) 0 1 ∧ ([3, 0, 5, 6, 7] : List Nat).getD 0 0 < ([3, 0, 5, 6, 7] : List Nat).getD r 0) := by
  intro r hr hne hpos
  match r, hr, hne, hpos with
  | 0, _, hne, _ => exact absurd rfl hne
  | 1, _, _, hpos => exact absurd hpos (show ¬ (0 : Int) < -1 by decide)
  | 2, _, _, _ =>
    have q1 : (R0 - R1 * p) * 1 = R0 - R1 * p := by grind
    have q2 : (-R1 + R2) * p = -(R1 * p) + R2 * p := by grind
    show (R0 - R1 * p) * 1 < (-R1 + R2) * p ∨ ((R0 - R1 * p) * 1 = (-R1 + R2) * p ∧ (3 : Nat) < 5)
    omega
  | 3, _, _, _ =>
    have q1 : (R0 - R1 * p) * 1 = R0 - R1 * p := by grind
    have q2 : R3 * p = R3 * p := by grind
    show (R0 - R1 * p) * 1 < R3 * p ∨ ((R0 - R1 * p) * 1 = R3 * p ∧ (3 : Nat) < 6)
    omega
  | 4, _, _, hpos => exact absurd hpos (show ¬ (0 : Int) < 0 by decide)
  | n + 5, h, _, _ => exact absurd h (by omega)
theorem ap_lA2 {p c R0 R1 R2 R3 R4 W0 W1 W2 W3 : Int} (hp : 1 ≤ p ∧ p ≤ 7) (hc : 2 ≤ c ∧ c ≤ 5) (h1 : R2 * p < R0) (h2 : R2 - R1 ≤ R3) : ∀ r, r < 5 → r ≠ 2 → 0 < ap_at (ap_MA10 p c R0 R1 R2 R3 R4 W0 W1 W2 W3) r 1 → ap_at (ap_MA10 p c R0 R1 R2 R3 R4 W0 W1 W2 W3) 2 4 * ap_at (ap_MA10 p c R0 R1 R2 R3 R4 W0 W1 W2 W3) r 1 < ap_at (ap_MA10 p c R0 R1 R2 R3 R4 W0 W1 W2 W3) r 4 * ap_at (ap_MA10 p c R0 R1 R2 R3 R4 W0 W1 W2 W3) 2 1 ∨ (ap_at (ap_MA10 p c R0 R1 R2 R3 R4 W0 W1 W2 W3) 2 4 * ap_at (ap_MA10 p c R0 R1 R2 R3 R4 W0 W1 W2 W3) r 1 = ap_at (ap_MA10 p c R0 R1 R2 R3 R4 W0 W1 W2 W3) r 4 * ap_at (ap_MA10 p c R0 R1 R2 R3 R4 W0 W1 W2 W3) 2 1 ∧ ([3, 0, 5, 6, 7] : List Nat).getD 2 0 < ([3, 0, 5, 6, 7] : List Nat).getD r 0) := by
  intro r hr hne hpos
  match r, hr, hne, hpos with
  | 0, _, _, _ =>
    have q1 : (-R1 + R2) * p = -(R1 * p) + R2 * p := by grind
    have q2 : (R0 - R1 * p) * 1 = R0 - R1 * p := by grind
    show (-R1 + R2) * p < (R0 - R1 * p) * 1 ∨ ((-R1 + R2) * p = (R0 - R1 * p) * 1 ∧ (5 : Nat) < 3)
    omega
  | 1, _, _, hpos => exact absurd hpos (show ¬ (0 : Int) < -1 by decide)
  | 2, _, hne, _ => exact absurd rfl hne
  | 3, _, _, _ =>
    have q1 : (-R1 + R2) * 1 = -R1 + R2 := by grind
    have q2 : R3 * 1 = R3 := by grind
    show (-R1 + R2) * 1 < R3 * 1 ∨ ((-R1 + R2) * 1 = R3 * 1 ∧ (5 : Nat) < 6)
    omega
  | 4, _, _, hpos => exact absurd hpos (show ¬ (0 : Int) < 0 by decide)
  | n + 5, h, _, _ => exact absurd h (by omega)
theorem ap_eA1F {p c R0 R1 R2 R3 R4 W0 W1 W2 W3 : Int} (hp : 1 ≤ p ∧ p ≤ 7) (hc : 2 ≤ c ∧ c ≤ 5) : ∀ c', c' < 3 → ¬ ap_hT (ap_MA1 p c R0 R1 R2 R3 R4 W0 W1 W2 W3) 5 4 c' := by
  intro c' hc' 
  match c', hc' with
  | 0, _ => exact ap_hFp 0 (fun v hv => absurd hv (by omega)) (show (0 : Int) < p by omega)
  | 1, _ => exact ap_hFp 0 (fun v hv => absurd hv (by omega)) (show (0 : Int) < -1 + c by omega)
  | 2, _ => exact ap_hFp 3 (fun v hv => co_3 (P := fun v => ap_at (ap_MA1 p c R0 R1 R2 R3 R4 W0 W1 W2 W3) (5 + v) 2 = 0) rfl rfl rfl hv) (show (0 : Int) < p by omega)
  | n + 3, h => exact absurd h (by omega)
theorem ap_eA2F {p c R0 R1 R2 R3 R4 W0 W1 W2 W3 : Int} (hp : 1 ≤ p ∧ p ≤ 7) (hc : 2 ≤ c ∧ c ≤ 5) : ∀ c', c' < 3 → ¬ ap_hT (ap_MA2 p c R0 R1 R2 R3 R4 W0 W1 W2 W3) 5 4 c' := by
  intro c' hc' 
  match c', hc' with
  | 0, _ => exact ap_hFp 0 (fun v hv => absurd hv (by omega)) (show (0 : Int) < 1 by decide)
  | 1, _ => exact ap_hFp 0 (fun v hv => absurd hv (by omega)) (show (0 : Int) < -1 + c by omega)
  | 2, _ => exact ap_hFp 3 (fun v hv => co_3 (P := fun v => ap_at (ap_MA2 p c R0 R1 R2 R3 R4 W0 W1 W2 W3) (5 + v) 2 = 0) rfl rfl rfl hv) (show (0 : Int) < 1 by decide)
  | n + 3, h => exact absurd h (by omega)
theorem ap_eA0F {p c R0 R1 R2 R3 R4 W0 W1 W2 W3 : Int} (hp : 1 ≤ p ∧ p ≤ 7) (hc : 2 ≤ c ∧ c ≤ 5) : ∀ c', c' < 3 → ¬ ap_hT (ap_MA0 p c R0 R1 R2 R3 R4 W0 W1 W2 W3) 5 4 c' := by
  intro c' hc' 
  match c', hc' with
  | 0, _ => exact ap_hFp 0 (fun v hv => absurd hv (by omega)) (show (0 : Int) < c by omega)
  | 1, _ => exact ap_hFp 0 (fun v hv => absurd hv (by omega)) (show (0 : Int) < p by omega)
  | 2, _ => exact ap_hFp 3 (fun v hv => co_3 (P := fun v => ap_at (ap_MA0 p c R0 R1 R2 R3 R4 W0 W1 W2 W3) (5 + v) 2 = 0) rfl rfl rfl hv) (show (0 : Int) < p by omega)
  | n + 3, h => exact absurd h (by omega)
theorem ap_eB13T {p c R0 R1 R2 R3 R4 W0 W1 W2 W3 : Int} (hp : 1 ≤ p ∧ p ≤ 7) (hc : 2 ≤ c ∧ c ≤ 5) : ap_hT (ap_MB13 p c R0 R1 R2 R3 R4 W0 W1 W2 W3) 9 1 1 := ⟨0, by decide, fun v hv => absurd hv (by omega), show (-1) < (0 : Int) by omega⟩
theorem ap_eB13F {p c R0 R1 R2 R3 R4 W0 W1 W2 W3 : Int} (hp : 1 ≤ p ∧ p ≤ 7) (hc : 2 ≤ c ∧ c ≤ 5) : ∀ c', c' < 4 → c' ≠ 1 → ¬ ap_hT (ap_MB13 p c R0 R1 R2 R3 R4 W0 W1 W2 W3) 9 1 c' := by
  intro c' hc' hne
  match c', hc', hne with
  | 0, _, _ => exact ap_hFp 0 (fun v hv => absurd hv (by omega)) (show (0 : Int) < 1 by decide)
  | 1, _, hne => exact absurd rfl hne
  | 2, _, _ =>
    rintro ⟨w, hw, _, hn⟩
    have e : w = 0 := by omega
    subst e
    exact absurd hn (show ¬ (0 : Int) < 0 by decide)
  | 3, _, _ => exact ap_hFp 0 (fun v hv => absurd hv (by omega)) (show (0 : Int) < 1 by decide)
  | n + 4, h, _ => exact absurd h (by omega)
theorem ap_lB2 {p c R0 R1 R2 R3 R4 W0 W1 W2 W3 : Int} (hp : 1 ≤ p ∧ p ≤ 7) (hc : 2 ≤ c ∧ c ≤ 5) (h1 : R2 < R0) (h2 : R2 ≤ 0) (h3 : 2 * R2 - R1 ≤ R3) (h4 : R2 ≤ R4) : ∀ r, r < 5 → r ≠ 2 → 0 < ap_at (ap_MB13 p c R0 R1 R2 R3 R4 W0 W1 W2 W3) r 1 → ap_at (ap_MB13 p c R0 R1 R2 R3 R4 W0 W1 W2 W3) 2 4 * ap_at (ap_MB13 p c R0 R1 R2 R3 R4 W0 W1 W2 W3) r 1 < ap_at (ap_MB13 p c R0 R1 R2 R3 R4 W0 W1 W2 W3) r 4 * ap_at (ap_MB13 p c R0 R1 R2 R3 R4 W0 W1 W2 W3) 2 1 ∨ (ap_at (ap_MB13 p c R0 R1 R2 R3 R4 W0 W1 W2 W3) 2 4 * ap_at (ap_MB13 p c R0 R1 R2 R3 R4 W0 W1 W2 W3) r 1 = ap_at (ap_MB13 p c R0 R1 R2 R3 R4 W0 W1 W2 W3) r 4 * ap_at (ap_MB13 p c R0 R1 R2 R3 R4 W0 W1 W2 W3) 2 1 ∧ ([3, 99, 5, 6, 7] : List Nat).getD 2 0 < ([3, 99, 5, 6, 7] : List Nat).getD r 0) := by
  intro r hr hne hpos
  match r, hr, hne, hpos with
  | 0, _, _, _ =>
    have q1 : (-R1 + R2) * 1 = -R1 + R2 := by grind
    have q2 : (R0 - R1) * 1 = R0 - R1 := by grind
    show (-R1 + R2) * 1 < (R0 - R1) * 1 ∨ ((-R1 + R2) * 1 = (R0 - R1) * 1 ∧ (5 : Nat) < 3)
    omega
  | 1, _, _, _ =>
    have q1 : (-R1 + R2) * 1 = -R1 + R2 := by grind
    have q2 : (-R1) * 1 = -R1 := by grind
    show (-R1 + R2) * 1 < (-R1) * 1 ∨ ((-R1 + R2) * 1 = (-R1) * 1 ∧ (5 : Nat) < 99)
    omega
  | 2, _, hne, _ => exact absurd rfl hne
  | 3, _, _, _ =>
    have q1 : (-R1 + R2) * 2 = -(2 * R1) + 2 * R2 := by grind
    have q2 : (-R1 + R3) * 1 = -R1 + R3 := by grind
    show (-R1 + R2) * 2 < (-R1 + R3) * 1 ∨ ((-R1 + R2) * 2 = (-R1 + R3) * 1 ∧ (5 : Nat) < 6)
    omega
  | 4, _, _, _ =>
    have q1 : (-R1 + R2) * 1 = -R1 + R2 := by grind
    have q2 : (-R1 + R4) * 1 = -R1 + R4 := by grind
    show (-R1 + R2) * 1 < (-R1 + R4) * 1 ∨ ((-R1 + R2) * 1 = (-R1 + R4) * 1 ∧ (5 : Nat) < 7)
    omega
  | n + 5, h, _, _ => exact absurd h (by omega)
theorem ap_lB0 {p c R0 R1 R2 R3 R4 W0 W1 W2 W3 : Int} (hp : 1 ≤ p ∧ p ≤ 7) (hc : 2 ≤ c ∧ c ≤ 5) (h1 : R0 ≤ R2) (h2 : R0 ≤ 0) (h3 : 2 * R0 - R1 ≤ R3) (h4 : R0 ≤ R4) : ∀ r, r < 5 → r ≠ 0 → 0 < ap_at (ap_MB13 p c R0 R1 R2 R3 R4 W0 W1 W2 W3) r 1 → ap_at (ap_MB13 p c R0 R1 R2 R3 R4 W0 W1 W2 W3) 0 4 * ap_at (ap_MB13 p c R0 R1 R2 R3 R4 W0 W1 W2 W3) r 1 < ap_at (ap_MB13 p c R0 R1 R2 R3 R4 W0 W1 W2 W3) r 4 * ap_at (ap_MB13 p c R0 R1 R2 R3 R4 W0 W1 W2 W3) 0 1 ∨ (ap_at (ap_MB13 p c R0 R1 R2 R3 R4 W0 W1 W2 W3) 0 4 * ap_at (ap_MB13 p c R0 R1 R2 R3 R4 W0 W1 W2 W3) r 1 = ap_at (ap_MB13 p c R0 R1 R2 R3 R4 W0 W1 W2 W3) r 4 * ap_at (ap_MB13 p c R0 R1 R2 R3 R4 W0 W1 W2 W3) 0 1 ∧ ([3, 99, 5, 6, 7] : List Nat).getD 0 0 < ([3, 99, 5, 6, 7] : List Nat).getD r 0) := by
  intro r hr hne hpos
  match r, hr, hne, hpos with
  | 0, _, hne, _ => exact absurd rfl hne
  | 1, _, _, _ =>
    have q1 : (R0 - R1) * 1 = R0 - R1 := by grind
    have q2 : (-R1) * 1 = -R1 := by grind
    show (R0 - R1) * 1 < (-R1) * 1 ∨ ((R0 - R1) * 1 = (-R1) * 1 ∧ (3 : Nat) < 99)
    omega
  | 2, _, _, _ =>
    have q1 : (R0 - R1) * 1 = R0 - R1 := by grind
    have q2 : (-R1 + R2) * 1 = -R1 + R2 := by grind
    show (R0 - R1) * 1 < (-R1 + R2) * 1 ∨ ((R0 - R1) * 1 = (-R1 + R2) * 1 ∧ (3 : Nat) < 5)
    omega
  | 3, _, _, _ =>
    have q1 : (R0 - R1) * 2 = 2 * R0 - 2 * R1 := by grind
    have q2 : (-R1 + R3) * 1 = -R1 + R3 := by grind
    show (R0 - R1) * 2 < (-R1 + R3) * 1 ∨ ((R0 - R1) * 2 = (-R1 + R3) * 1 ∧ (3 : Nat) < 6)
    omega
  | 4, _, _, _ =>
    have q1 : (R0 - R1) * 1 = R0 - R1 := by grind
    have q2 : (-R1 + R4) * 1 = -R1 + R4 := by grind
    show (R0 - R1) * 1 < (-R1 + R4) * 1 ∨ ((R0 - R1) * 1 = (-R1 + R4) * 1 ∧ (3 : Nat) < 7)
    omega
  | n + 5, h, _, _ => exact absurd h (by omega)
theorem ap_lB3 {p c R0 R1 R2 R3 R4 W0 W1 W2 W3 : Int} (hp : 1 ≤ p ∧ p ≤ 7) (hc : 2 ≤ c ∧ c ≤ 5) (h1 : R3 + R1 < 2 * R0) (h2 : R3 + R1 ≤ 0) (h3 : R3 + R1 < 2 * R2) (h4 : R3 + R1 ≤ 2 * R4) : ∀ r, r < 5 → r ≠ 3 → 0 < ap_at (ap_MB13 p c R0 R1 R2 R3 R4 W0 W1 W2 W3) r 1 → ap_at (ap_MB13 p c R0 R1 R2 R3 R4 W0 W1 W2 W3) 3 4 * ap_at (ap_MB13 p c R0 R1 R2 R3 R4 W0 W1 W2 W3) r 1 < ap_at (ap_MB13 p c R0 R1 R2 R3 R4 W0 W1 W2 W3) r 4 * ap_at (ap_MB13 p c R0 R1 R2 R3 R4 W0 W1 W2 W3) 3 1 ∨ (ap_at (ap_MB13 p c R0 R1 R2 R3 R4 W0 W1 W2 W3) 3 4 * ap_at (ap_MB13 p c R0 R1 R2 R3 R4 W0 W1 W2 W3) r 1 = ap_at (ap_MB13 p c R0 R1 R2 R3 R4 W0 W1 W2 W3) r 4 * ap_at (ap_MB13 p c R0 R1 R2 R3 R4 W0 W1 W2 W3) 3 1 ∧ ([3, 99, 5, 6, 7] : List Nat).getD 3 0 < ([3, 99, 5, 6, 7] : List Nat).getD r 0) := by
  intro r hr hne hpos
  match r, hr, hne, hpos with
  | 0, _, _, _ =>
    have q1 : (-R1 + R3) * 1 = -R1 + R3 := by grind
    have q2 : (R0 - R1) * 2 = 2 * R0 - 2 * R1 := by grind
    show (-R1 + R3) * 1 < (R0 - R1) * 2 ∨ ((-R1 + R3) * 1 = (R0 - R1) * 2 ∧ (6 : Nat) < 3)
    omega
  | 1, _, _, _ =>
    have q1 : (-R1 + R3) * 1 = -R1 + R3 := by grind
    have q2 : (-R1) * 2 = -(2 * R1) := by grind
    show (-R1 + R3) * 1 < (-R1) * 2 ∨ ((-R1 + R3) * 1 = (-R1) * 2 ∧ (6 : Nat) < 99)
    omega
  | 2, _, _, _ =>
    have q1 : (-R1 + R3) * 1 = -R1 + R3 := by grind
    have q2 : (-R1 + R2) * 2 = -(2 * R1) + 2 * R2 := by grind
    show (-R1 + R3) * 1 < (-R1 + R2) * 2 ∨ ((-R1 + R3) * 1 = (-R1 + R2) * 2 ∧ (6 : Nat) < 5)
    omega
  | 3, _, hne, _ => exact absurd rfl hne
  | 4, _, _, _ =>
    have q1 : (-R1 + R3) * 1 = -R1 + R3 := by grind
    have q2 : (-R1 + R4) * 2 = -(2 * R1) + 2 * R4 := by grind
    show (-R1 + R3) * 1 < (-R1 + R4) * 2 ∨ ((-R1 + R3) * 1 = (-R1 + R4) * 2 ∧ (6 : Nat) < 7)
    omega
  | n + 5, h, _, _ => exact absurd h (by omega)
theorem ap_eB2F {p c R0 R1 R2 R3 R4 W0 W1 W2 W3 : Int} (hp : 1 ≤ p ∧ p ≤ 7) (hc : 2 ≤ c ∧ c ≤ 5) : ∀ c', c' < 4 → ¬ ap_hT (ap_MB2 p c R0 R1 R2 R3 R4 W0 W1 W2 W3) 9 1 c' := by
  intro c' hc' 
  match c', hc' with
  | 0, _ => exact ap_hFp 0 (fun v hv => absurd hv (by omega)) (show (0 : Int) < 1 by decide)
  | 1, _ => exact ap_hFp 0 (fun v hv => absurd hv (by omega)) (show (0 : Int) < 1 by decide)
  | 2, _ =>
    rintro ⟨w, hw, _, hn⟩
    have e : w = 0 := by omega
    subst e
    exact absurd hn (show ¬ (0 : Int) < 0 by decide)
  | 3, _ =>
    rintro ⟨w, hw, _, hn⟩
    have e : w = 0 := by omega
    subst e
    exact absurd hn (show ¬ (0 : Int) < 0 by decide)
  | n + 4, h => exact absurd h (by omega)
theorem ap_eB0F {p c R0 R1 R2 R3 R4 W0 W1 W2 W3 : Int} (hp : 1 ≤ p ∧ p ≤ 7) (hc : 2 ≤ c ∧ c ≤ 5) : ∀ c', c' < 4 → ¬ ap_hT (ap_MB0 p c R0 R1 R2 R3 R4 W0 W1 W2 W3) 9 1 c' := by
  intro c' hc' 
  match c', hc' with
  | 0, _ => exact ap_hFp 0 (fun v hv => absurd hv (by omega)) (show (0 : Int) < p by omega)
  | 1, _ => exact ap_hFp 0 (fun v hv => absurd hv (by omega)) (show (0 : Int) < 1 by decide)
  | 2, _ =>
    rintro ⟨w, hw, _, hn⟩
    have e : w = 0 := by omega
    subst e
    exact absurd hn (show ¬ (0 : Int) < 0 by decide)
  | 3, _ =>
    rintro ⟨w, hw, _, hn⟩
    have e : w = 0 := by omega
    subst e
    exact absurd hn (show ¬ (0 : Int) < 0 by decide)
  | n + 4, h => exact absurd h (by omega)
theorem ap_eB3F {p c R0 R1 R2 R3 R4 W0 W1 W2 W3 : Int} (hp : 1 ≤ p ∧ p ≤ 7) (hc : 2 ≤ c ∧ c ≤ 5) : ∀ c', c' < 4 → ¬ ap_hT (ap_MB3 p c R0 R1 R2 R3 R4 W0 W1 W2 W3) 9 1 c' := by
  intro c' hc' 
  match c', hc' with
  | 0, _ => exact ap_hFp 0 (fun v hv => absurd hv (by omega)) (show (0 : Int) < 1 by decide)
  | 1, _ => exact ap_hFp 0 (fun v hv => absurd hv (by omega)) (show (0 : Int) < 1 by decide)
  | 2, _ =>
    rintro ⟨w, hw, _, hn⟩
    have e : w = 0 := by omega
    subst e
    exact absurd hn (show ¬ (0 : Int) < 0 by decide)
  | 3, _ => exact ap_hFp 0 (fun v hv => absurd hv (by omega)) (show (0 : Int) < 1 by decide)
  | n + 4, h => exact absurd h (by omega)
theorem ap_eB03F {p c R0 R1 R2 R3 R4 W0 W1 W2 W3 : Int} (hp : 1 ≤ p ∧ p ≤ 7) (hc : 2 ≤ c ∧ c ≤ 5) : ∀ c', c' < 4 → ¬ ap_hT (ap_MB03 p c R0 R1 R2 R3 R4 W0 W1 W2 W3) 9 1 c' := by
  intro c' hc' 
  match c', hc' with
  | 0, _ => exact ap_hFp 0 (fun v hv => absurd hv (by omega)) (show (0 : Int) < p by omega)
  | 1, _ =>
    rintro ⟨w, hw, _, hn⟩
    have e : w = 0 := by omega
    subst e
    exact absurd hn (show ¬ (0 : Int) < 0 by decide)
  | 2, _ =>
    rintro ⟨w, hw, _, hn⟩
    have e : w = 0 := by omega
    subst e
    exact absurd hn (show ¬ (0 : Int) < 0 by decide)
  | 3, _ => exact ap_hFp 0 (fun v hv => absurd hv (by omega)) (show (0 : Int) < 1 by decide)
  | n + 4, h => exact absurd h (by omega)
end
section
section
variable {f0_present : Int32}
variable {f0_without : Int32}
variable {f0_rows : Int32}
variable {f0_turned : Int32}
variable {f0_unit : Int64}
variable {f0_columns : Int32}
variable {f0_firstWorth : Int32}
variable {f0_worthCount : Int32}
variable {f0_worthTop : Int64}
variable {f0_worthBottom : Int64}
variable {f0_lines : Int32}
variable {f0_empty : Int32}
variable {f0_hasHigh : Int32}
variable {f0_highTop : Int64}
variable {f0_highBottom : Int64}
variable {f0_hasLow : Int32}
variable {f0_lowTop : Int64}
variable {f0_lowBottom : Int64}
variable {f0_branches : Int32}
variable {f0_leastThird : Int32}
variable {f0_greatestThird : Int32}
variable {a1 : Nat → Int32}
variable {a2 : Nat → Int32}
variable {a3 : Nat → Int32}
variable {a4 : Nat → Int32}
variable {a5 : Nat → Int32}
variable {a6 : Nat → Int32}
variable {a7 : Nat → Int32}
variable {a8 : Nat → Int32}
variable {a9 : Nat → Int32}
variable {a10 : Nat → Int64}
variable {a11 : Nat → Int32}
variable {a12 : Nat → Int32}
variable {a13 : Nat → Int64}
variable {a14 : Nat → Int64}
variable {a15 : Nat → Int64}
variable {a16 : Nat → Int64}
variable {a17 : Nat → Int64}
variable {a18 : Nat → Int32}
variable {a19 : Nat → Int32}
variable {p c R0 R1 R2 R3 R4 W0 W1 W2 W3 : Int}
theorem ap_climbA1 {post : St2 → Prop} (hb : ap_bd p c R0 R1 R2 R3 R4 W0 W1 W2 W3) (h1 : R1 * p < R0) (h2 : R1 ≤ R2) (h3 : R0 ≤ R2 * p) (h4 : R0 - R1 * p ≤ R3 * p)
    (g : ap_G 5 3 5 4 1 (ap_MA p c R0 R1 R2 R3 R4 W0 W1 W2 W3) [3, 4, 5, 6, 7] [0, 1, 2] f0_rows f0_columns f0_firstWorth f0_worthCount f0_unit a10 a11 a12)
    (H : ∀ (u' : Int64) (t' : Nat → Int64) (b' c' : Nat → Int32), ap_G 5 3 5 4 p (ap_MA1 p c R0 R1 R2 R3 R4 W0 W1 W2 W3) [1, 0, 5, 6, 7] [4, 3, 2] f0_rows f0_columns f0_firstWorth f0_worthCount u' t' b' c' → post (f0_present, f0_without, f0_rows, f0_turned, u', f0_columns, f0_firstWorth, f0_worthCount, f0_worthTop, f0_worthBottom, f0_lines, f0_empty, f0_hasHigh, f0_highTop, f0_highBottom, f0_hasLow, f0_lowTop, f0_lowBottom, f0_branches, f0_leastThird, f0_greatestThird, a1, a2, a3, a4, a5, a6, a7, a8, a9, t', b', c', a13, a14, a15, a16, a17, a18, a19)) :
    wpX_climb post (f0_present, f0_without, f0_rows, f0_turned, f0_unit, f0_columns, f0_firstWorth, f0_worthCount, f0_worthTop, f0_worthBottom, f0_lines, f0_empty, f0_hasHigh, f0_highTop, f0_highBottom, f0_hasLow, f0_lowTop, f0_lowBottom, f0_branches, f0_leastThird, f0_greatestThird, a1, a2, a3, a4, a5, a6, a7, a8, a9, a10, a11, a12, a13, a14, a15, a16, a17, a18, a19) := by
  have hp := hb.1
  have hc := hb.2.1
  refine ⟨2 + 1, ?_⟩
  refine ap_climbG (k := 0) (ap_MA10 p c R0 R1 R2 R3 R4 W0 W1 W2 W3) 1 0 1 [3, 0, 5, 6, 7] [4, 1, 2] g rfl rfl rfl (by omega) (by omega) (by omega) (ap_eAT hp hc) (ap_eAF hp hc) (show (0 : Int) < 1 by decide) (ap_lA10 hp hc h1 h2) (ap_cA10 hb) (fun u' t' b' c' g' => ?_)
  refine ap_climbG (n := 1) (k := 1) (ap_MA1 p c R0 R1 R2 R3 R4 W0 W1 W2 W3) 0 1 p [1, 0, 5, 6, 7] [4, 3, 2] g' (Int.one_mul p) rfl rfl (by omega) (by omega) (by omega) (ap_eA10T hp hc) (ap_eA10F hp hc) (show (0 : Int) < p by omega) (ap_lA1 hp hc h3 h4) (ap_cA1 hb) (fun u' t' b' c' g' => ?_)
  exact ap_climbS (n := 0) (k := 2) g' (by omega) (ap_eA1F hp hc) (H u' t' b' c' g')
theorem ap_climbA2 {post : St2 → Prop} (hb : ap_bd p c R0 R1 R2 R3 R4 W0 W1 W2 W3) (h1 : R1 * p < R0) (h2 : R1 ≤ R2) (h3 : R2 * p < R0) (h4 : R2 - R1 ≤ R3)
    (g : ap_G 5 3 5 4 1 (ap_MA p c R0 R1 R2 R3 R4 W0 W1 W2 W3) [3, 4, 5, 6, 7] [0, 1, 2] f0_rows f0_columns f0_firstWorth f0_worthCount f0_unit a10 a11 a12)
    (H : ∀ (u' : Int64) (t' : Nat → Int64) (b' c' : Nat → Int32), ap_G 5 3 5 4 1 (ap_MA2 p c R0 R1 R2 R3 R4 W0 W1 W2 W3) [3, 0, 1, 6, 7] [4, 5, 2] f0_rows f0_columns f0_firstWorth f0_worthCount u' t' b' c' → post (f0_present, f0_without, f0_rows, f0_turned, u', f0_columns, f0_firstWorth, f0_worthCount, f0_worthTop, f0_worthBottom, f0_lines, f0_empty, f0_hasHigh, f0_highTop, f0_highBottom, f0_hasLow, f0_lowTop, f0_lowBottom, f0_branches, f0_leastThird, f0_greatestThird, a1, a2, a3, a4, a5, a6, a7, a8, a9, t', b', c', a13, a14, a15, a16, a17, a18, a19)) :
    wpX_climb post (f0_present, f0_without, f0_rows, f0_turned, f0_unit, f0_columns, f0_firstWorth, f0_worthCount, f0_worthTop, f0_worthBottom, f0_lines, f0_empty, f0_hasHigh, f0_highTop, f0_highBottom, f0_hasLow, f0_lowTop, f0_lowBottom, f0_branches, f0_leastThird, f0_greatestThird, a1, a2, a3, a4, a5, a6, a7, a8, a9, a10, a11, a12, a13, a14, a15, a16, a17, a18, a19) := by
  have hp := hb.1
  have hc := hb.2.1
  refine ⟨2 + 1, ?_⟩
  refine ap_climbG (k := 0) (ap_MA10 p c R0 R1 R2 R3 R4 W0 W1 W2 W3) 1 0 1 [3, 0, 5, 6, 7] [4, 1, 2] g rfl rfl rfl (by omega) (by omega) (by omega) (ap_eAT hp hc) (ap_eAF hp hc) (show (0 : Int) < 1 by decide) (ap_lA10 hp hc h1 h2) (ap_cA10 hb) (fun u' t' b' c' g' => ?_)
  refine ap_climbG (n := 1) (k := 1) (ap_MA2 p c R0 R1 R2 R3 R4 W0 W1 W2 W3) 2 1 1 [3, 0, 1, 6, 7] [4, 5, 2] g' rfl rfl rfl (by omega) (by omega) (by omega) (ap_eA10T hp hc) (ap_eA10F hp hc) (show (0 : Int) < 1 by decide) (ap_lA2 hp hc h3 h4) (ap_cA2 hb) (fun u' t' b' c' g' => ?_)
  exact ap_climbS (n := 0) (k := 2) g' (by omega) (ap_eA2F hp hc) (H u' t' b' c' g')
theorem ap_climbA0 {post : St2 → Prop} (hb : ap_bd p c R0 R1 R2 R3 R4 W0 W1 W2 W3) (h1 : R0 ≤ R1 * p) (h2 : R0 ≤ R2 * p)
    (g : ap_G 5 3 5 4 1 (ap_MA p c R0 R1 R2 R3 R4 W0 W1 W2 W3) [3, 4, 5, 6, 7] [0, 1, 2] f0_rows f0_columns f0_firstWorth f0_worthCount f0_unit a10 a11 a12)
    (H : ∀ (u' : Int64) (t' : Nat → Int64) (b' c' : Nat → Int32), ap_G 5 3 5 4 p (ap_MA0 p c R0 R1 R2 R3 R4 W0 W1 W2 W3) [0, 4, 5, 6, 7] [3, 1, 2] f0_rows f0_columns f0_firstWorth f0_worthCount u' t' b' c' → post (f0_present, f0_without, f0_rows, f0_turned, u', f0_columns, f0_firstWorth, f0_worthCount, f0_worthTop, f0_worthBottom, f0_lines, f0_empty, f0_hasHigh, f0_highTop, f0_highBottom, f0_hasLow, f0_lowTop, f0_lowBottom, f0_branches, f0_leastThird, f0_greatestThird, a1, a2, a3, a4, a5, a6, a7, a8, a9, t', b', c', a13, a14, a15, a16, a17, a18, a19)) :
    wpX_climb post (f0_present, f0_without, f0_rows, f0_turned, f0_unit, f0_columns, f0_firstWorth, f0_worthCount, f0_worthTop, f0_worthBottom, f0_lines, f0_empty, f0_hasHigh, f0_highTop, f0_highBottom, f0_hasLow, f0_lowTop, f0_lowBottom, f0_branches, f0_leastThird, f0_greatestThird, a1, a2, a3, a4, a5, a6, a7, a8, a9, a10, a11, a12, a13, a14, a15, a16, a17, a18, a19) := by
  have hp := hb.1
  have hc := hb.2.1
  refine ⟨1 + 1, ?_⟩
  refine ap_climbG (k := 0) (ap_MA0 p c R0 R1 R2 R3 R4 W0 W1 W2 W3) 0 0 p [0, 4, 5, 6, 7] [3, 1, 2] g (Int.one_mul p) rfl rfl (by omega) (by omega) (by omega) (ap_eAT hp hc) (ap_eAF hp hc) (show (0 : Int) < p by omega) (ap_lA0 hp hc h1 h2) (ap_cA0 hb) (fun u' t' b' c' g' => ?_)
  exact ap_climbS (n := 0) (k := 1) g' (by omega) (ap_eA0F hp hc) (H u' t' b' c' g')
/-- nothing to climb any more -/
theorem ap_climbE {post : St2 → Prop} {rows ncol fw wc : Nat} {u : Int} {M : List (List Int)} {rn cn : List Nat} (g : ap_G rows ncol fw wc u M rn cn f0_rows f0_columns f0_firstWorth f0_worthCount f0_unit a10 a11 a12)
    (hf : ∀ c, c < ncol → ¬ ap_hT M fw wc c) (H : post (f0_present, f0_without, f0_rows, f0_turned, f0_unit, f0_columns, f0_firstWorth, f0_worthCount, f0_worthTop, f0_worthBottom, f0_lines, f0_empty, f0_hasHigh, f0_highTop, f0_highBottom, f0_hasLow, f0_lowTop, f0_lowBottom, f0_branches, f0_leastThird, f0_greatestThird, a1, a2, a3, a4, a5, a6, a7, a8, a9, a10, a11, a12, a13, a14, a15, a16, a17, a18, a19)) : wpX_climb post (f0_present, f0_without, f0_rows, f0_turned, f0_unit, f0_columns, f0_firstWorth, f0_worthCount, f0_worthTop, f0_worthBottom, f0_lines, f0_empty, f0_hasHigh, f0_highTop, f0_highBottom, f0_hasLow, f0_lowTop, f0_lowBottom, f0_branches, f0_leastThird, f0_greatestThird, a1, a2, a3, a4, a5, a6, a7, a8, a9, a10, a11, a12, a13, a14, a15, a16, a17, a18, a19) :=
  ⟨0 + 1, ap_climbS (k := 0) g (by omega) hf H⟩
/-- the looking for a point: one step from the exchange with the additional variable -/
theorem ap_climbB {post : St2 → Prop} (row : Nat) (u2 : Int) (rn' cn' : List Nat) (N : List (List Int)) (hb : ap_bd p c R0 R1 R2 R3 R4 W0 W1 W2 W3)
    (g : ap_G 5 4 9 1 1 (ap_MB13 p c R0 R1 R2 R3 R4 W0 W1 W2 W3) [3, 99, 5, 6, 7] [0, 1, 2, 4] f0_rows f0_columns f0_firstWorth f0_worthCount f0_unit a10 a11 a12)
    (hu2 : 1 * ap_at (ap_MB13 p c R0 R1 R2 R3 R4 W0 W1 W2 W3) row 1 = u2) (hrn : ([3, 99, 5, 6, 7] : List Nat).set row 1 = rn') (hcn : ([0, 1, 2, 4] : List Nat).set 1 (([3, 99, 5, 6, 7] : List Nat).getD row 0) = cn') (hr : row < 5)
    (hpos : 0 < ap_at (ap_MB13 p c R0 R1 R2 R3 R4 W0 W1 W2 W3) row 1)
    (hd : ∀ r, r < 5 → r ≠ row → 0 < ap_at (ap_MB13 p c R0 R1 R2 R3 R4 W0 W1 W2 W3) r 1 → ap_at (ap_MB13 p c R0 R1 R2 R3 R4 W0 W1 W2 W3) row 4 * ap_at (ap_MB13 p c R0 R1 R2 R3 R4 W0 W1 W2 W3) r 1 < ap_at (ap_MB13 p c R0 R1 R2 R3 R4 W0 W1 W2 W3) r 4 * ap_at (ap_MB13 p c R0 R1 R2 R3 R4 W0 W1 W2 W3) row 1 ∨ (ap_at (ap_MB13 p c R0 R1 R2 R3 R4 W0 W1 W2 W3) row 4 * ap_at (ap_MB13 p c R0 R1 R2 R3 R4 W0 W1 W2 W3) r 1 = ap_at (ap_MB13 p c R0 R1 R2 R3 R4 W0 W1 W2 W3) r 4 * ap_at (ap_MB13 p c R0 R1 R2 R3 R4 W0 W1 W2 W3) row 1 ∧ ([3, 99, 5, 6, 7] : List Nat).getD row 0 < ([3, 99, 5, 6, 7] : List Nat).getD r 0))
    (cert : ∀ r c', r < 10 → c' < 5 → ap_s (ap_at N r c') ∧ ap_cert (ap_MB13 p c R0 R1 R2 R3 R4 W0 W1 W2 W3) N 1 1 row 1 4 r c')
    (he : ∀ c', c' < 4 → ¬ ap_hT N 9 1 c')
    (H : ∀ (u' : Int64) (t' : Nat → Int64) (b' c' : Nat → Int32), ap_G 5 4 9 1 u2 N rn' cn' f0_rows f0_columns f0_firstWorth f0_worthCount u' t' b' c' → post (f0_present, f0_without, f0_rows, f0_turned, u', f0_columns, f0_firstWorth, f0_worthCount, f0_worthTop, f0_worthBottom, f0_lines, f0_empty, f0_hasHigh, f0_highTop, f0_highBottom, f0_hasLow, f0_lowTop, f0_lowBottom, f0_branches, f0_leastThird, f0_greatestThird, a1, a2, a3, a4, a5, a6, a7, a8, a9, t', b', c', a13, a14, a15, a16, a17, a18, a19)) :
    wpX_climb post (f0_present, f0_without, f0_rows, f0_turned, f0_unit, f0_columns, f0_firstWorth, f0_worthCount, f0_worthTop, f0_worthBottom, f0_lines, f0_empty, f0_hasHigh, f0_highTop, f0_highBottom, f0_hasLow, f0_lowTop, f0_lowBottom, f0_branches, f0_leastThird, f0_greatestThird, a1, a2, a3, a4, a5, a6, a7, a8, a9, a10, a11, a12, a13, a14, a15, a16, a17, a18, a19) := by
  have hp := hb.1
  have hc := hb.2.1
  refine ⟨1 + 1, ?_⟩
  refine ap_climbG (k := 0) N row 1 u2 rn' cn' g hu2 hrn hcn (by omega) hr (by omega) (ap_eB13T hp hc) (ap_eB13F hp hc) hpos hd cert (fun u' t' b' c' g' => ?_)
  exact ap_climbS (n := 0) (k := 1) g' (by omega) he (H u' t' b' c' g')
theorem ap_drop {post : Int32 → St2 → Prop} {ncol fw wc : Nat} {u : Int} {M : List (List Int)} {rn cn : List Nat} (r0 : Nat) (g : ap_G 5 ncol fw wc u M rn cn f0_rows f0_columns f0_firstWorth f0_worthCount f0_unit a10 a11 a12) (hn : 2 ≤ ncol)
    (h0 : r0 < 5) (e0 : rn.getD r0 0 = 99) (hb : ∀ r, r < r0 → rn.getD r 0 ≠ 99) (hz : ap_at M r0 0 ≠ 0) (H : wX_dropExtra_50 post (nI r0) 0 f0_present f0_without f0_rows f0_turned f0_unit f0_columns f0_firstWorth f0_worthCount f0_worthTop f0_worthBottom f0_lines f0_empty f0_hasHigh f0_highTop f0_highBottom f0_hasLow f0_lowTop f0_lowBottom f0_branches f0_leastThird f0_greatestThird a1 a2 a3 a4 a5 a6 a7 a8 a9 a10 a11 a12 a13 a14 a15 a16 a17 a18 a19) : wpX_dropExtra post (f0_present, f0_without, f0_rows, f0_turned, f0_unit, f0_columns, f0_firstWorth, f0_worthCount, f0_worthTop, f0_worthBottom, f0_lines, f0_empty, f0_hasHigh, f0_highTop, f0_highBottom, f0_hasLow, f0_lowTop, f0_lowBottom, f0_branches, f0_leastThird, f0_greatestThird, a1, a2, a3, a4, a5, a6, a7, a8, a9, a10, a11, a12, a13, a14, a15, a16, a17, a18, a19) := by
  obtain ⟨⟨g1, g2, g3, g4, g5⟩, ⟨g6, g7⟩, ⟨g8, g9, g10, g11, g12, g13⟩, g14, g15, g16⟩ := g
  refine pk_loop (σ := Unit) (fun n i _ => wX_dropExtra_2 post f0_present f0_without f0_rows f0_turned f0_unit f0_columns f0_firstWorth f0_worthCount f0_worthTop f0_worthBottom f0_lines f0_empty f0_hasHigh f0_highTop f0_highBottom f0_hasLow f0_lowTop f0_lowBottom f0_branches f0_leastThird f0_greatestThird a1 a2 a3 a4 a5 a6 a7 a8 a9 a10 a11 a12 a13 a14 a15 a16 a17 a18 a19 n (nI i)) (fun _ _ => True) r0 0 () (by omega) trivial ?_ ?_
  · intro n _ _
    refine pk_le 5 r0 (fun z => absurd z (by omega)) (fun _ => ⟨pk_in r0 16 (by omega), ?_⟩) g1
    rw [pk_cl (x := nI r0) r0, (g15 r0 (by omega)).1, e0]
    refine br_t rfl ⟨1, ?_⟩
    refine pk_le (ncol - 1) 0 (fun z => absurd z (by omega)) (fun _ => ?_) (by rw [g2]; exact pk_sub (a := ncol) (b := 1) (by omega))
    refine ap_cell r0 0 (by omega) ?_
    obtain ⟨e1, s1⟩ := g14 r0 0 (by omega) (by omega)
    rw [e1]
    exact ek_if (ap_Leq0 (ap_sb s1)) (fun z => absurd z hz) (fun _ => H)
  · intro n i _ hi _ hw
    refine pk_le 5 i (fun z => absurd z (by omega)) (fun _ => ⟨pk_in i 16 (by omega), ?_⟩) g1
    obtain ⟨e1, s1⟩ := g15 i (by omega)
    rw [pk_cl (x := nI i) i, e1]
    exact pk_eq (rn.getD i 0) 99 (fun z => absurd z (hb i hi)) (fun _ => nm_r (nI_1 i) (hw () trivial)) rfl rfl (by omega) (by omega)
theorem ap_close {post : St2 → Prop} {u : Int} {M N : List (List Int)} {rn cn : List Nat} {last : Nat} (e1 : f0_rows = nI 5) (e3 : f0_firstWorth = nI 5) (e4 : f0_worthCount = nI 4) (e5 : f0_unit = ap_L u) (hu : 0 < u ∧ ap_s u) (hl : 9 ≤ last) (hT : ap_T a10 last M) (hR : ap_N a11 rn) (hR5 : 5 ≤ rn.length) (hC : ap_N a12 cn) (hC4 : cn.length = 4)
    (hN : ∀ r c', r < 9 → c' < 5 → ap_at N r c' = if c' = 0 then ap_at M r 3 else if c' = 3 then 0 else ap_at M r c')
    (H : ∀ (t' : Nat → Int64) (c' : Nat → Int32), ap_G 5 3 5 4 u N rn (cn.set 0 (cn.getD 3 0)) f0_rows 3 f0_firstWorth f0_worthCount f0_unit t' a11 c' → post (f0_present, f0_without, f0_rows, f0_turned, f0_unit, 3, f0_firstWorth, f0_worthCount, f0_worthTop, f0_worthBottom, f0_lines, f0_empty, f0_hasHigh, f0_highTop, f0_highBottom, f0_hasLow, f0_lowTop, f0_lowBottom, f0_branches, f0_leastThird, f0_greatestThird, a1, a2, a3, a4, a5, a6, a7, a8, a9, t', a11, c', a13, a14, a15, a16, a17, a18, a19)) : wpX_closeColumn post (f0_present, f0_without, f0_rows, f0_turned, f0_unit, f0_columns, f0_firstWorth, f0_worthCount, f0_worthTop, f0_worthBottom, f0_lines, f0_empty, f0_hasHigh, f0_highTop, f0_highBottom, f0_hasLow, f0_lowTop, f0_lowBottom, f0_branches, f0_leastThird, f0_greatestThird, a1, a2, a3, a4, a5, a6, a7, a8, a9, a10, a11, a12, a13, a14, a15, a16, a17, a18, a19) (nI 0) := by
  have e9 : f0_rows + 4 = nI 9 := by
    rw [e1]
    exact nI_add 5 4
  refine pk_loop (σ := Nat → Int64) (fun n i t => wX_closeColumn_2 post (nI 0) f0_present f0_without f0_rows f0_turned f0_unit f0_columns f0_firstWorth f0_worthCount f0_worthTop f0_worthBottom f0_lines f0_empty f0_hasHigh f0_highTop f0_highBottom f0_hasLow f0_lowTop f0_lowBottom f0_branches f0_leastThird f0_greatestThird n (nI i) a1 a2 a3 a4 a5 a6 a7 a8 a9 t a11 a12 a13 a14 a15 a16 a17 a18 a19) (fun m t => ∀ r c', r < 9 → c' < 5 → t (r * 5 + c') = ap_L (if r < m then ap_at N r c' else ap_at M r c')) 9 0 a10 (by omega) ?_ ?_ ?_
  · intro r c' hr hc'
    rw [if_neg (by omega)]
    exact (hT r c' (by omega) hc').1
  · intro n t q
    refine pk_le 9 9 (fun _ => ⟨pk_in 0 4 (by omega), ?_⟩) (fun z => absurd z (by omega)) e9
    obtain ⟨k1, k2⟩ := hC 3 (by omega)
    rw [pk_cl (x := nI 0) 0, k1]
    refine nm_e (H t _ ⟨⟨e1, rfl, e3, e4, e5⟩, hu, ⟨by omega, by omega, by omega, by omega, hR5, ?_⟩, ?_, hR, ap_Nset hC (by omega) k2⟩)
    · rw [List.length_set]
      omega
    · intro r c' hr hc'
      have z := q r c' (by omega) hc'
      rw [if_pos (by omega)] at z
      refine ⟨z, ?_⟩
      rw [hN r c' (by omega) hc']
      by_cases y : c' = 0
      · rw [if_pos y]
        exact (hT r 3 (by omega) (by omega)).2
      · rw [if_neg y]
        by_cases x : c' = 3
        · rw [if_pos x]
          exact ⟨by omega, by omega⟩
        · rw [if_neg x]
          exact (hT r c' (by omega) hc').2
  · intro n i t hi q hw
    have i0 : nI i * 5 + nI 0 = nI (i * 5 + 0) := ap_ix 5 i 0
    have i3 : nI i * 5 + 3 = nI (i * 5 + 3) := ap_ix 5 i 3
    refine pk_le 9 i (fun z => absurd z (by omega)) (fun _ => ?_) e9
    refine ap_cell i 3 (by omega) ⟨pk_in (i * 5 + 0) 105 (by omega) i0, ?_⟩
    rw [pk_cl (i * 5 + 0) i0]
    refine nm_e ⟨pk_in (i * 5 + 3) 105 (by omega) i3, ?_⟩
    rw [pk_cl (i * 5 + 3) i3]
    refine nm_e (nm_r (nI_1 i) (hw _ ?_))
    intro r c' hr hc'
    by_cases z : r = i
    · subst z
      rw [if_pos (by omega), hN r c' hr hc']
      by_cases x : c' = 3
      · subst x
        rw [pk_uLs]
        rfl
      · rw [pk_uLn (by omega), if_neg x]
        by_cases y : c' = 0
        · subst y
          rw [pk_uLs, if_pos rfl, q r 3 hr (by omega), if_neg (by omega)]
        · rw [pk_uLn (by omega), if_neg y, q r c' hr hc', if_neg (by omega)]
    · rw [pk_uLn (by omega), pk_uLn (by omega), q r c' hr hc']
      by_cases y : r < i
      · rw [if_pos y, if_pos (by omega)]
      · rw [if_neg y, if_neg (by omega)]
end
end
section
section
variable {f0_present : Int32}
variable {f0_without : Int32}
variable {f0_rows : Int32}
variable {f0_turned : Int32}
variable {f0_unit : Int64}
variable {f0_columns : Int32}
variable {f0_firstWorth : Int32}
variable {f0_worthCount : Int32}
variable {f0_worthTop : Int64}
variable {f0_worthBottom : Int64}
variable {f0_lines : Int32}
variable {f0_empty : Int32}
variable {f0_hasHigh : Int32}
variable {f0_highTop : Int64}
variable {f0_highBottom : Int64}
variable {f0_hasLow : Int32}
variable {f0_lowTop : Int64}
variable {f0_lowBottom : Int64}
variable {f0_branches : Int32}
variable {f0_leastThird : Int32}
variable {f0_greatestThird : Int32}
variable {a1 : Nat → Int32}
variable {a2 : Nat → Int32}
variable {a3 : Nat → Int32}
variable {a4 : Nat → Int32}
variable {a5 : Nat → Int32}
variable {a6 : Nat → Int32}
variable {a7 : Nat → Int32}
variable {a8 : Nat → Int32}
variable {a9 : Nat → Int32}
variable {a10 : Nat → Int64}
variable {a11 : Nat → Int32}
variable {a12 : Nat → Int32}
variable {a13 : Nat → Int64}
variable {a14 : Nat → Int64}
variable {a15 : Nat → Int64}
variable {a16 : Nat → Int64}
variable {a17 : Nat → Int64}
variable {a18 : Nat → Int32}
variable {a19 : Nat → Int32}
theorem ap_gM {a8' a9' : Nat → Int32} {t : Nat → Int64} {bn cn : Nat → Int32} {g l h : Nat → Int} {dn : Nat → Bool} (M : List (List Int))
    (h8 : ∀ r i, r < 5 → i < 3 → a8' (r * 3 + i) = ap_I (ap_at M r i)) (h3 : ∀ r, r < 9 → ap_at M r 3 = 0) (h9 : ∀ r, r < 5 → a9' r = ap_I (ap_at M r 4))
    (hW : ∀ w i, w < 4 → i < 3 → -(ap_sg dn i (ap_nm g w i)) = ap_at M (5 + w) i) (hW4 : ∀ w, w < 4 → ap_ws g (ap_ba dn l h) w 3 = ap_at M (5 + w) 4) (hS : ∀ r c, r < 9 → c < 5 → ap_s (ap_at M r c))
    (s1 : ∀ r, r < 5 → (∀ i, i < 3 → t (r * 5 + i) = (a8' (r * 3 + i)).toInt64) ∧ t (r * 5 + 3) = 0 ∧ t (r * 5 + 4) = (a9' r).toInt64)
    (s2 : ∀ w, w < 4 → (∀ i, i < 3 → t ((5 + w) * 5 + i) = ap_L (-(ap_sg dn i (ap_nm g w i)))) ∧ t ((5 + w) * 5 + 3) = 0 ∧ t ((5 + w) * 5 + 4) = ap_L (ap_ws g (ap_ba dn l h) w 3))
    (n1 : ap_N bn [3, 4, 5, 6, 7]) (n2 : ap_N cn [0, 1, 2]) : ap_G 5 3 5 4 1 M [3, 4, 5, 6, 7] [0, 1, 2] (nI 5) 3 (nI 5) 4 1 t bn cn := by
  refine ⟨⟨rfl, rfl, rfl, rfl, rfl⟩, ⟨by omega, ⟨by omega, by omega⟩⟩, ⟨by omega, by omega, by omega, by omega, by decide, by decide⟩, ?_, n1, n2⟩
  intro r c hr hc
  refine ⟨?_, hS r c (by omega) hc⟩
  have big : ∀ r c, r < 9 → c < 5 → (ap_I (ap_at M r c)).toInt64 = ap_L (ap_at M r c) := by
    intro r c h1 h2
    obtain ⟨q1, q2⟩ := hS r c h1 h2
    exact ap_I64 (by omega) (by omega)
  by_cases z : r < 5
  · obtain ⟨y1, y2, y3⟩ := s1 r z
    by_cases x : c < 3
    · rw [y1 c x, h8 r c z x, big r c (by omega) hc]
    · by_cases w : c = 3
      · rw [w, y2, h3 r (by omega)]
        rfl
      · have e : c = 4 := by omega
        rw [e, y3, h9 r z, big r 4 (by omega) (by omega)]
  · obtain ⟨w, hw, rfl⟩ : ∃ w, w < 4 ∧ r = 5 + w := ⟨r - 5, by omega, by omega⟩
    obtain ⟨y1, y2, y3⟩ := s2 w hw
    by_cases x : c < 3
    · rw [y1 c x, hW w c hw x]
    · by_cases v : c = 3
      · rw [v, y2, h3 (5 + w) (by omega)]
        rfl
      · have e : c = 4 := by omega
        rw [e, y3, hW4 w hw]
theorem ap_findOk {post : Int32 → St2 → Prop} {ncol fw wc : Nat} {u : Int} {M : List (List Int)} {rn cn : List Nat} (g : ap_G 5 ncol fw wc u M rn cn f0_rows f0_columns f0_firstWorth f0_worthCount f0_unit a10 a11 a12)
    (h : ∀ r, r < 5 → 0 ≤ ap_at M r 4) (H : post 1 (f0_present, f0_without, f0_rows, f0_turned, f0_unit, f0_columns, f0_firstWorth, f0_worthCount, f0_worthTop, f0_worthBottom, f0_lines, f0_empty, f0_hasHigh, f0_highTop, f0_highBottom, f0_hasLow, f0_lowTop, f0_lowBottom, f0_branches, f0_leastThird, f0_greatestThird, a1, a2, a3, a4, a5, a6, a7, a8, a9, a10, a11, a12, a13, a14, a15, a16, a17, a18, a19)) : wpX_findPoint post (f0_present, f0_without, f0_rows, f0_turned, f0_unit, f0_columns, f0_firstWorth, f0_worthCount, f0_worthTop, f0_worthBottom, f0_lines, f0_empty, f0_hasHigh, f0_highTop, f0_highBottom, f0_hasLow, f0_lowTop, f0_lowBottom, f0_branches, f0_leastThird, f0_greatestThird, a1, a2, a3, a4, a5, a6, a7, a8, a9, a10, a11, a12, a13, a14, a15, a16, a17, a18, a19) := by
  obtain ⟨⟨g1, g2, g3, g4, g5⟩, ⟨g6, g7⟩, ⟨g8, g9, g10, g11, g12, g13⟩, g14, g15, g16⟩ := g
  unfold wpX_findPoint
  refine ap_lowest g14 (by omega) g9 (by omega) g1 (fun q hq _ _ => ?_)
  refine ap_cell q 4 (by omega) ?_
  obtain ⟨e1, s1⟩ := g14 q 4 (by omega) (by omega)
  rw [e1]
  have := h q hq
  exact ek_if (ap_Llt0 (ap_sb s1)) (fun z => absurd z (by omega)) (fun _ => H)
variable {p c R0 R1 R2 R3 R4 W0 W1 W2 W3 : Int}
theorem ap_find77 {post : Int32 → St2 → Prop} {low : Nat} (hb : ap_bd p c R0 R1 R2 R3 R4 W0 W1 W2 W3) (hlow : low < 5) (hneg : ap_at (ap_MA p c R0 R1 R2 R3 R4 W0 W1 W2 W3) low 4 < 0)
    (hl : ∀ q, q < 5 → (∀ r, r < 5 → ap_at (ap_MA p c R0 R1 R2 R3 R4 W0 W1 W2 W3) q 4 ≤ ap_at (ap_MA p c R0 R1 R2 R3 R4 W0 W1 W2 W3) r 4) → (∀ r, r < q → ap_at (ap_MA p c R0 R1 R2 R3 R4 W0 W1 W2 W3) q 4 < ap_at (ap_MA p c R0 R1 R2 R3 R4 W0 W1 W2 W3) r 4) → q = low)
    (g : ap_G 5 3 5 4 1 (ap_MA p c R0 R1 R2 R3 R4 W0 W1 W2 W3) [3, 4, 5, 6, 7] [0, 1, 2] f0_rows f0_columns f0_firstWorth f0_worthCount f0_unit a10 a11 a12)
    (H : ∀ (n : Nat) (t' : Nat → Int64) (c' : Nat → Int32), ap_G 5 4 9 1 1 (ap_MB p c R0 R1 R2 R3 R4 W0 W1 W2 W3) [3, 4, 5, 6, 7] [0, 1, 2, 99] f0_rows 4 (nI 9) 1 f0_unit t' a11 c' → wX_findPoint_77 post (nI low) f0_present f0_without f0_rows f0_turned f0_unit 4 (nI 9) 1 f0_worthTop f0_worthBottom f0_lines f0_empty f0_hasHigh f0_highTop f0_highBottom f0_hasLow f0_lowTop f0_lowBottom f0_branches f0_leastThird f0_greatestThird (n + 1) (nI 5) a1 a2 a3 a4 a5 a6 a7 a8 a9 t' a11 c' a13 a14 a15 a16 a17 a18 a19) :
    wpX_findPoint post (f0_present, f0_without, f0_rows, f0_turned, f0_unit, f0_columns, f0_firstWorth, f0_worthCount, f0_worthTop, f0_worthBottom, f0_lines, f0_empty, f0_hasHigh, f0_highTop, f0_highBottom, f0_hasLow, f0_lowTop, f0_lowBottom, f0_branches, f0_leastThird, f0_greatestThird, a1, a2, a3, a4, a5, a6, a7, a8, a9, a10, a11, a12, a13, a14, a15, a16, a17, a18, a19) := by
  obtain ⟨⟨g1, g2, g3, g4, g5⟩, ⟨g6, g7⟩, ⟨g8, g9, g10, g11, g12, g13⟩, g14, g15, g16⟩ := g
  unfold wpX_findPoint
  refine ap_lowest g14 (by omega) g9 (by omega) g1 (fun q hq k1 k2 => ?_)
  refine ap_cell q 4 (by omega) ?_
  have eq := hl q hq k1 k2
  subst eq
  obtain ⟨e1, s1⟩ := g14 q 4 (by omega) (by omega)
  rw [e1]
  refine ek_if (ap_Llt0 (ap_sb s1)) (fun _ => nm_e ?_) (fun z => absurd hneg z)
  have hC : ap_N (upd a12 3 99) [0, 1, 2, 99] := by
    intro i hi
    match i, hi with
    | 0, _ => exact ⟨(pk_un (by omega)).trans (g16 0 (by decide)).1, by decide⟩
    | 1, _ => exact ⟨(pk_un (by omega)).trans (g16 1 (by decide)).1, by decide⟩
    | 2, _ => exact ⟨(pk_un (by omega)).trans (g16 2 (by decide)).1, by decide⟩
    | 3, _ => exact ⟨pk_us, by decide⟩
    | n + 4, hh => exact absurd hh (by simp)
  refine pk_loop (σ := Nat → Int64) (fun n i t => wX_findPoint_33 post (nI q) f0_present f0_without f0_rows f0_turned f0_unit 4 f0_firstWorth f0_worthCount f0_worthTop f0_worthBottom f0_lines f0_empty f0_hasHigh f0_highTop f0_highBottom f0_hasLow f0_lowTop f0_lowBottom f0_branches f0_leastThird f0_greatestThird n (nI i) a1 a2 a3 a4 a5 a6 a7 a8 a9 t a11 (upd a12 3 99) a13 a14 a15 a16 a17 a18 a19) (fun m t => ∀ r c', r < 9 → c' < 5 → t (r * 5 + c') = if c' = 3 ∧ r < m then ap_L (-1) else ap_L (ap_at (ap_MA p c R0 R1 R2 R3 R4 W0 W1 W2 W3) r c')) 5 0 a10 (by omega) ?_ ?_ ?_
  · intro r c' hr hc'
    rw [if_neg (by omega)]
    exact (g14 r c' hr hc').1
  · intro n t qt
    refine pk_le 5 5 (fun _ => ?_) (fun z => absurd z (by omega)) g1
    refine nm_r (show f0_rows + 4 = nI 9 from by rw [g1]; exact nI_add 5 4) ?_
    refine pk_loop (σ := Nat → Int64) (fun n i s => wX_findPoint_77 post (nI q) f0_present f0_without f0_rows f0_turned f0_unit 4 (nI 9) 1 f0_worthTop f0_worthBottom f0_lines f0_empty f0_hasHigh f0_highTop f0_highBottom f0_hasLow f0_lowTop f0_lowBottom f0_branches f0_leastThird f0_greatestThird n (nI i) a1 a2 a3 a4 a5 a6 a7 a8 a9 s a11 (upd a12 3 99) a13 a14 a15 a16 a17 a18 a19) (fun m s => (∀ j, j < 45 → s j = t j) ∧ (∀ i, i < m → s (9 * 5 + i) = if i = 3 then ap_L 1 else ap_L 0)) 5 0 t (by omega) ⟨fun j _ => rfl, fun i hi => absurd hi (by omega)⟩ ?_ ?_
    · rintro n s ⟨y1, y2⟩
      refine H n s _ ⟨⟨g1, rfl, rfl, rfl, g5⟩, ⟨g6, g7⟩, ⟨by omega, by omega, by omega, by omega, g12, by decide⟩, ?_, g15, hC⟩
      have old : ∀ r c', r < 9 → c' < 5 → s (r * 5 + c') = if c' = 3 ∧ r < 5 then ap_L (-1) else ap_L (ap_at (ap_MA p c R0 R1 R2 R3 R4 W0 W1 W2 W3) r c') := fun r c' hr hc' => by rw [y1 _ (by omega), qt r c' hr hc']
      have eq : ∀ r c', r < 10 → c' < 5 → s (r * 5 + c') = ap_L (ap_at (ap_MB p c R0 R1 R2 R3 R4 W0 W1 W2 W3) r c') := by
        refine ap_rc10 ?_ ?_ ?_ ?_ ?_ ?_ ?_ ?_ ?_ ?_
        · exact ap_c5 (old 0 0 (by omega) (by omega)) (old 0 1 (by omega) (by omega)) (old 0 2 (by omega) (by omega)) (old 0 3 (by omega) (by omega)) (old 0 4 (by omega) (by omega))
        · exact ap_c5 (old 1 0 (by omega) (by omega)) (old 1 1 (by omega) (by omega)) (old 1 2 (by omega) (by omega)) (old 1 3 (by omega) (by omega)) (old 1 4 (by omega) (by omega))
        · exact ap_c5 (old 2 0 (by omega) (by omega)) (old 2 1 (by omega) (by omega)) (old 2 2 (by omega) (by omega)) (old 2 3 (by omega) (by omega)) (old 2 4 (by omega) (by omega))
        · exact ap_c5 (old 3 0 (by omega) (by omega)) (old 3 1 (by omega) (by omega)) (old 3 2 (by omega) (by omega)) (old 3 3 (by omega) (by omega)) (old 3 4 (by omega) (by omega))
        · exact ap_c5 (old 4 0 (by omega) (by omega)) (old 4 1 (by omega) (by omega)) (old 4 2 (by omega) (by omega)) (old 4 3 (by omega) (by omega)) (old 4 4 (by omega) (by omega))
        · exact ap_c5 (old 5 0 (by omega) (by omega)) (old 5 1 (by omega) (by omega)) (old 5 2 (by omega) (by omega)) (old 5 3 (by omega) (by omega)) (old 5 4 (by omega) (by omega))
        · exact ap_c5 (old 6 0 (by omega) (by omega)) (old 6 1 (by omega) (by omega)) (old 6 2 (by omega) (by omega)) (old 6 3 (by omega) (by omega)) (old 6 4 (by omega) (by omega))
        · exact ap_c5 (old 7 0 (by omega) (by omega)) (old 7 1 (by omega) (by omega)) (old 7 2 (by omega) (by omega)) (old 7 3 (by omega) (by omega)) (old 7 4 (by omega) (by omega))
        · exact ap_c5 (old 8 0 (by omega) (by omega)) (old 8 1 (by omega) (by omega)) (old 8 2 (by omega) (by omega)) (old 8 3 (by omega) (by omega)) (old 8 4 (by omega) (by omega))
        · exact ap_c5 (y2 0 (by omega)) (y2 1 (by omega)) (y2 2 (by omega)) (y2 3 (by omega)) (y2 4 (by omega))
      exact fun r c' hr hc' => ⟨eq r c' hr hc', ap_sB hb r c' hr hc'⟩
    · rintro n i s hi ⟨y1, y2⟩ hw
      have ei : nI 9 * 5 + nI i = nI (9 * 5 + i) := ap_ix 5 9 i
      have fill : ∀ v : Int64, v = (if i = 3 then ap_L 1 else ap_L 0) → (∀ j, j < 45 → vp_updL s (9 * 5 + i) v j = t j) ∧ (∀ k, k < i + 1 → vp_updL s (9 * 5 + i) v (9 * 5 + k) = if k = 3 then ap_L 1 else ap_L 0) := by
        intro v ev
        refine ⟨fun j hj => ?_, fun k hk => ?_⟩
        · rw [pk_uLn (by omega), y1 j hj]
        · by_cases z : k = i
          · rw [z, pk_uLs, ev]
          · rw [pk_uLn (by omega), y2 k (by omega)]
      refine pk_le 5 i (fun z => absurd z (by omega)) (fun _ => ?_)
      refine pk_eq i 3 (fun z => ⟨pk_in (9 * 5 + i) 105 (by omega) ei, ?_⟩) (fun z => ⟨pk_in (9 * 5 + i) 105 (by omega) ei, ?_⟩)
      · rw [pk_cl (9 * 5 + i) ei]
        exact nm_e (nm_r (nI_1 i) (hw _ (fill _ (by rw [if_pos z]; rfl))))
      · rw [pk_cl (9 * 5 + i) ei]
        exact nm_e (nm_r (nI_1 i) (hw _ (fill _ (by rw [if_neg z]; rfl))))
  · intro n i t hi qt hw
    have ei : nI i * 5 + 3 = nI (i * 5 + 3) := ap_ix 5 i 3
    refine pk_le 5 i (fun z => absurd z (by omega)) (fun _ => ⟨pk_in (i * 5 + 3) 105 (by omega) ei, ?_⟩) g1
    rw [pk_cl (i * 5 + 3) ei]
    refine nm_e (nm_r (nI_1 i) (hw _ ?_))
    intro r c' hr hc'
    by_cases z : r * 5 + c' = i * 5 + 3
    · rw [z, pk_uLs, if_pos (by omega)]
      rfl
    · rw [pk_uLn z, qt r c' hr hc']
      by_cases y : c' = 3 ∧ r < i
      · rw [if_pos y, if_pos (by omega)]
      · rw [if_neg y, if_neg (by omega)]
/-- the additional variable is brought away after a search that found nothing -/
theorem ap_noPoint {post : Int32 → St2 → Prop} {u : Int} {M : List (List Int)} {rn cn : List Nat} (r0 : Nat) (g : ap_G 5 4 9 1 u M rn cn f0_rows f0_columns f0_firstWorth f0_worthCount f0_unit a10 a11 a12)
    (h0 : r0 < 5) (e0 : rn.getD r0 0 = 99) (hb : ∀ r, r < r0 → rn.getD r 0 ≠ 99) (hz : ap_at M r0 0 ≠ 0)
    (H : ∀ (u' : Int64) (t' : Nat → Int64) (b' c' : Nat → Int32), post 0 (f0_present, f0_without, f0_rows, f0_turned, u', f0_columns, f0_rows, 4, f0_worthTop, f0_worthBottom, f0_lines, f0_empty, f0_hasHigh, f0_highTop, f0_highBottom, f0_hasLow, f0_lowTop, f0_lowBottom, f0_branches, f0_leastThird, f0_greatestThird, a1, a2, a3, a4, a5, a6, a7, a8, a9, t', b', c', a13, a14, a15, a16, a17, a18, a19)) : wX_findPoint_140 post 0 f0_present f0_without f0_rows f0_turned f0_unit f0_columns f0_firstWorth f0_worthCount f0_worthTop f0_worthBottom f0_lines f0_empty f0_hasHigh f0_highTop f0_highBottom f0_hasLow f0_lowTop f0_lowBottom f0_branches f0_leastThird f0_greatestThird a1 a2 a3 a4 a5 a6 a7 a8 a9 a10 a11 a12 a13 a14 a15 a16 a17 a18 a19 := by
  unfold wX_findPoint_140
  refine ap_drop r0 g (by omega) h0 e0 hb hz ?_
  unfold wX_dropExtra_50
  obtain ⟨⟨g1, g2, g3, g4, g5⟩, ⟨g6, g7⟩, ⟨g8, g9, g10, g11, g12, g13⟩, g14, g15, g16⟩ := g
  refine ap_exchange (row := r0) (col := 0) (ncol := 4) (last := 10) (by omega) (by omega) (by omega) (by omega) (by omega) g2 (by rw [g3, g4]; exact nI_add 9 1) (fun u' t' _ _ => ?_)
  exact br_t rfl ⟨rfl, H u' t' _ _⟩
/-- .. and after one that found a point -/
theorem ap_onPoint {post : Int32 → St2 → Prop} {u : Int} {M N : List (List Int)} {rn cn : List Nat} (E : List (List Int)) (u2 : Int) (rn' cn' : List Nat) (g : ap_G 5 4 9 1 u M rn cn f0_rows f0_columns f0_firstWorth f0_worthCount f0_unit a10 a11 a12)
    (e0 : rn.getD 1 0 = 99) (hb : rn.getD 0 0 ≠ 99) (hu2 : (-1) * ap_at M 1 0 = u2) (hrn : rn.set 1 (cn.getD 0 0) = rn') (hcn : cn.set 0 (rn.getD 1 0) = cn') (hc4 : cn.length = 4) (hz : ap_at M 1 0 < 0)
    (cert : ∀ r c', r < 10 → c' < 5 → ap_s (ap_at E r c') ∧ ap_cert M E u (-1) 1 0 4 r c')
    (hN : ∀ r c', r < 9 → c' < 5 → ap_at N r c' = if c' = 0 then ap_at E r 3 else if c' = 3 then 0 else ap_at E r c')
    (H : ∀ (u' : Int64) (t' : Nat → Int64) (b' c' : Nat → Int32), ap_G 5 3 5 4 u2 N rn' (cn'.set 0 (cn'.getD 3 0)) f0_rows 3 f0_rows 4 u' t' b' c' → post 1 (f0_present, f0_without, f0_rows, f0_turned, u', 3, f0_rows, 4, f0_worthTop, f0_worthBottom, f0_lines, f0_empty, f0_hasHigh, f0_highTop, f0_highBottom, f0_hasLow, f0_lowTop, f0_lowBottom, f0_branches, f0_leastThird, f0_greatestThird, a1, a2, a3, a4, a5, a6, a7, a8, a9, t', b', c', a13, a14, a15, a16, a17, a18, a19)) : wX_findPoint_140 post 1 f0_present f0_without f0_rows f0_turned f0_unit f0_columns f0_firstWorth f0_worthCount f0_worthTop f0_worthBottom f0_lines f0_empty f0_hasHigh f0_highTop f0_highBottom f0_hasLow f0_lowTop f0_lowBottom f0_branches f0_leastThird f0_greatestThird a1 a2 a3 a4 a5 a6 a7 a8 a9 a10 a11 a12 a13 a14 a15 a16 a17 a18 a19 := by
  unfold wX_findPoint_140
  refine ap_drop 1 g (by omega) (by omega) e0 (fun r hr => by rw [show r = 0 by omega]; exact hb) (by omega) ?_
  unfold wX_dropExtra_50
  refine ap_exG (-1) E 1 0 u2 rn' cn' g hu2 hrn hcn (by omega) (by omega) (by omega) (Or.inr ⟨rfl, hz⟩) cert (fun u' t' b' c' g' => ?_)
  obtain ⟨⟨g1, g2, g3, g4, g5⟩, ⟨g6, g7⟩, ⟨g8, g9, g10, g11, g12, g13⟩, g14, g15, g16⟩ := g'
  refine br_f (by decide) (br_f (by decide) ?_)
  refine ap_close (last := 10) g1 g1 rfl g5 ⟨g6, g7⟩ (by omega) g14 g15 g12 g16 (by rw [← hcn, List.length_set]; exact hc4) hN (fun t'' c'' g'' => ?_)
  exact ⟨rfl, H _ _ _ _ g''⟩
end
end
section
section
variable {f0_present : Int32}
variable {f0_without : Int32}
variable {f0_rows : Int32}
variable {f0_turned : Int32}
variable {f0_unit : Int64}
variable {f0_columns : Int32}
variable {f0_firstWorth : Int32}
variable {f0_worthCount : Int32}
variable {f0_worthTop : Int64}
variable {f0_worthBottom : Int64}
variable {f0_lines : Int32}
variable {f0_empty : Int32}
variable {f0_hasHigh : Int32}
variable {f0_highTop : Int64}
variable {f0_highBottom : Int64}
variable {f0_hasLow : Int32}
variable {f0_lowTop : Int64}
variable {f0_lowBottom : Int64}
variable {f0_branches : Int32}
variable {f0_leastThird : Int32}
variable {f0_greatestThird : Int32}
variable {a1 : Nat → Int32}
variable {a2 : Nat → Int32}
variable {a3 : Nat → Int32}
variable {a4 : Nat → Int32}
variable {a5 : Nat → Int32}
variable {a6 : Nat → Int32}
variable {a7 : Nat → Int32}
variable {a8 : Nat → Int32}
variable {a9 : Nat → Int32}
variable {a10 : Nat → Int64}
variable {a11 : Nat → Int32}
variable {a12 : Nat → Int32}
variable {a13 : Nat → Int64}
variable {a14 : Nat → Int64}
variable {a15 : Nat → Int64}
variable {a16 : Nat → Int64}
variable {a17 : Nat → Int64}
variable {a18 : Nat → Int32}
variable {a19 : Nat → Int32}
variable {p b c R0 R1 R2 R3 R4 W0 W1 W2 W3 : Int} {l h : Nat → Int}
def ap_n : Nat → Bool := fun _ => false
def ap_g (c : Int) : Nat → Int := fun i => [c, -1, 0].getD i 0
/-- the right sides of a question, amounts counted from their least up -/
def ap_RW (p b c : Int) (l h : Nat → Int) (R0 R1 R2 R3 R4 W0 W1 W2 W3 : Int) : Prop :=
  R0 = b - p * l 0 ∧ R1 = l 1 - l 0 ∧ R2 = h 0 - l 0 ∧ R3 = h 1 - l 1 ∧ R4 = h 2 - l 2 ∧ W0 = c * l 0 - l 1 ∧ W1 = -(l 0) ∧ W2 = -(l 1) ∧ W3 = -(l 2)
theorem ap_lt2 {P : Nat → Nat → Prop} (h0 : P 0 0) (h1 : P 0 1) (h2 : P 0 2) (k0 : P 1 0) (k1 : P 1 1) (k2 : P 1 2) (m0 : P 2 0) (m1 : P 2 1) (m2 : P 2 2) : ∀ r i, r < 3 → i < 3 → P r i := by
  intro r i hr hi
  match r, hr, i, hi with
  | 0, _, 0, _ => exact h0
  | 0, _, 1, _ => exact h1
  | 0, _, 2, _ => exact h2
  | 1, _, 0, _ => exact k0
  | 1, _, 1, _ => exact k1
  | 1, _, 2, _ => exact k2
  | 2, _, 0, _ => exact m0
  | 2, _, 1, _ => exact m1
  | 2, _, 2, _ => exact m2
  | n + 3, q, _, _ => exact absurd q (by omega)
  | _, _, n + 3, q => exact absurd q (by omega)
theorem ap_lt3 {P : Nat → Prop} (h0 : P 0) (h1 : P 1) (h2 : P 2) : ∀ i, i < 3 → P i := fun i hi => co_3 h0 h1 h2 hi
theorem ap_lt5 {P : Nat → Prop} (h0 : P 0) (h1 : P 1) (h2 : P 2) (h3 : P 3) (h4 : P 4) : ∀ i, i < 5 → P i := ap_c5 h0 h1 h2 h3 h4
theorem ap_gA {a8' a9' : Nat → Int32} {t : Nat → Int64} {bn cn : Nat → Int32} (hb : ap_bd p c R0 R1 R2 R3 R4 W0 W1 W2 W3) (hRW : ap_RW p b c l h R0 R1 R2 R3 R4 W0 W1 W2 W3) (w8 : ap_W8 a8' ap_n p) (w9 : ap_W9 a9' ap_n p b l h)
    (s1 : ∀ r, r < 5 → (∀ i, i < 3 → t (r * 5 + i) = (a8' (r * 3 + i)).toInt64) ∧ t (r * 5 + 3) = 0 ∧ t (r * 5 + 4) = (a9' r).toInt64)
    (s2 : ∀ w, w < 4 → (∀ i, i < 3 → t ((5 + w) * 5 + i) = ap_L (-(ap_sg ap_n i (ap_nm (ap_g c) w i)))) ∧ t ((5 + w) * 5 + 3) = 0 ∧ t ((5 + w) * 5 + 4) = ap_L (ap_ws (ap_g c) (ap_ba ap_n l h) w 3))
    (n1 : ap_N bn [3, 4, 5, 6, 7]) (n2 : ap_N cn [0, 1, 2]) : ap_G 5 3 5 4 1 (ap_MA p c R0 R1 R2 R3 R4 W0 W1 W2 W3) [3, 4, 5, 6, 7] [0, 1, 2] (nI 5) 3 (nI 5) 4 1 t bn cn := by
  obtain ⟨e0, e1, e2, e3, e4, f0, f1, f2, f3⟩ := hRW
  obtain ⟨u1, u2, u3⟩ := w8
  obtain ⟨v1, v2, v3⟩ := w9
  refine ap_gM (ap_MA p c R0 R1 R2 R3 R4 W0 W1 W2 W3) ?_ ?_ ?_ ?_ ?_ (ap_sA hb) s1 s2 n1 n2
  · intro r i hr hi
    match r, hr with
    | 0, _ => exact ap_lt3 (P := fun i => a8' (0 * 3 + i) = ap_I (ap_at (ap_MA p c R0 R1 R2 R3 R4 W0 W1 W2 W3) 0 i)) (u1 0 (by omega)) (u1 1 (by omega)) (u1 2 (by omega)) i hi
    | 1, _ => exact ap_lt3 (P := fun i => a8' (1 * 3 + i) = ap_I (ap_at (ap_MA p c R0 R1 R2 R3 R4 W0 W1 W2 W3) 1 i)) (u2 0 (by omega)) (u2 1 (by omega)) (u2 2 (by omega)) i hi
    | 2, _ => exact ap_lt3 (P := fun i => a8' (2 * 3 + i) = ap_I (ap_at (ap_MA p c R0 R1 R2 R3 R4 W0 W1 W2 W3) 2 i)) (u3 0 (by omega) 0 (by omega)) (u3 0 (by omega) 1 (by omega)) (u3 0 (by omega) 2 (by omega)) i hi
    | 3, _ => exact ap_lt3 (P := fun i => a8' (3 * 3 + i) = ap_I (ap_at (ap_MA p c R0 R1 R2 R3 R4 W0 W1 W2 W3) 3 i)) (u3 1 (by omega) 0 (by omega)) (u3 1 (by omega) 1 (by omega)) (u3 1 (by omega) 2 (by omega)) i hi
    | 4, _ => exact ap_lt3 (P := fun i => a8' (4 * 3 + i) = ap_I (ap_at (ap_MA p c R0 R1 R2 R3 R4 W0 W1 W2 W3) 4 i)) (u3 2 (by omega) 0 (by omega)) (u3 2 (by omega) 1 (by omega)) (u3 2 (by omega) 2 (by omega)) i hi
    | n + 5, q => exact absurd q (by omega)
  · intro r hr
    match r, hr with
    | 0, _ => rfl
    | 1, _ => rfl
    | 2, _ => rfl
    | 3, _ => rfl
    | 4, _ => rfl
    | 5, _ => rfl
    | 6, _ => rfl
    | 7, _ => rfl
    | 8, _ => rfl
    | n + 9, q => exact absurd q (by omega)
  · refine ap_lt5 (P := fun r => a9' r = ap_I (ap_at (ap_MA p c R0 R1 R2 R3 R4 W0 W1 W2 W3) r 4)) ?_ ?_ ?_ ?_ ?_
    · rw [v1]
      have q : b - p * l 0 - 0 * l 1 - 0 * l 2 = R0 := by omega
      exact congrArg ap_I q
    · rw [v2]
      have q : 0 - 1 * l 0 - (-1) * l 1 - 0 * l 2 = R1 := by omega
      exact congrArg ap_I q
    · exact (v3 0 (by omega)).trans (congrArg ap_I e2.symm)
    · exact (v3 1 (by omega)).trans (congrArg ap_I e3.symm)
    · exact (v3 2 (by omega)).trans (congrArg ap_I e4.symm)
  · intro w i hw hi
    match w, hw with
    | 0, _ => exact ap_lt3 (P := fun i => -(ap_sg ap_n i (ap_nm (ap_g c) 0 i)) = ap_at (ap_MA p c R0 R1 R2 R3 R4 W0 W1 W2 W3) (5 + 0) i) rfl rfl rfl i hi
    | 1, _ => exact ap_lt3 (P := fun i => -(ap_sg ap_n i (ap_nm (ap_g c) 1 i)) = ap_at (ap_MA p c R0 R1 R2 R3 R4 W0 W1 W2 W3) (5 + 1) i) rfl rfl rfl i hi
    | 2, _ => exact ap_lt3 (P := fun i => -(ap_sg ap_n i (ap_nm (ap_g c) 2 i)) = ap_at (ap_MA p c R0 R1 R2 R3 R4 W0 W1 W2 W3) (5 + 2) i) rfl rfl rfl i hi
    | 3, _ => exact ap_lt3 (P := fun i => -(ap_sg ap_n i (ap_nm (ap_g c) 3 i)) = ap_at (ap_MA p c R0 R1 R2 R3 R4 W0 W1 W2 W3) (5 + 3) i) rfl rfl rfl i hi
    | n + 4, q => exact absurd q (by omega)
  · intro w hw
    match w, hw with
    | 0, _ => exact (show 0 + c * l 0 + (-1) * l 1 + 0 * l 2 = W0 by omega)
    | 1, _ => exact (show 0 + (-1) * l 0 + 0 * l 1 + 0 * l 2 = W1 by omega)
    | 2, _ => exact (show 0 + 0 * l 0 + (-1) * l 1 + 0 * l 2 = W2 by omega)
    | 3, _ => exact (show 0 + 0 * l 0 + 0 * l 1 + (-1) * l 2 = W3 by omega)
    | n + 4, q => exact absurd q (by omega)
theorem ap_D0 : ap_D 0 ap_n := by
  intro i hi
  match i, hi with
  | 0, _ => exact ⟨fun _ => rfl, fun _ => by decide⟩
  | 1, _ => exact ⟨fun _ => rfl, fun _ => by decide⟩
  | 2, _ => exact ⟨fun _ => rfl, fun _ => by decide⟩
  | n + 3, q => exact absurd q (by omega)
/-- the bounds of a question -/
def ap_lh (l h : Nat → Int) : Prop := ∀ i, i < 3 → (0 ≤ l i ∧ l i ≤ 20) ∧ (0 ≤ h i ∧ h i ≤ 20)
def ap_nn (R0 R1 R2 R3 R4 : Int) : Prop := 0 ≤ R0 ∧ 0 ≤ R1 ∧ 0 ≤ R2 ∧ 0 ≤ R3 ∧ 0 ≤ R4
def ap_low1 (R0 R1 R2 R3 R4 : Int) : Prop := R1 < 0 ∧ R1 < R0 ∧ R1 ≤ R2 ∧ R1 ≤ R3 ∧ R1 ≤ R4
/-- the ways to a point: with the unit p, at b over p; with the unit 1, at the greatest of the first amount -/
def ap_way (p b c : Int) (l h : Nat → Int) (R0 R1 R2 R3 R4 : Int) (N B : Int) : Prop :=
  (ap_nn R0 R1 R2 R3 R4 ∧ R1 * p < R0 ∧ R1 ≤ R2 ∧ R0 ≤ R2 * p ∧ R0 - R1 * p ≤ R3 * p ∧ N = b ∧ B = p)
  ∨ (ap_nn R0 R1 R2 R3 R4 ∧ R1 * p < R0 ∧ R1 ≤ R2 ∧ R2 * p < R0 ∧ R2 - R1 ≤ R3 ∧ N = h 0 ∧ B = 1)
  ∨ (ap_nn R0 R1 R2 R3 R4 ∧ R0 ≤ R1 * p ∧ R0 ≤ R2 * p ∧ b = l 1 * p ∧ N = b ∧ B = p)
  ∨ (ap_low1 R0 R1 R2 R3 R4 ∧ R2 = 0 ∧ R2 < R0 ∧ 2 * R2 - R1 ≤ R3 ∧ R2 ≤ R4 ∧ N = h 0 ∧ B = 1)
  ∨ (ap_low1 R0 R1 R2 R3 R4 ∧ R0 = 0 ∧ R0 ≤ R2 ∧ 2 * R0 - R1 ≤ R3 ∧ R0 ≤ R4 ∧ N = b ∧ B = p)
theorem ap_lowIs1 (hl : ap_low1 R0 R1 R2 R3 R4) : ∀ q, q < 5 → (∀ r, r < 5 → ap_at (ap_MA p c R0 R1 R2 R3 R4 W0 W1 W2 W3) q 4 ≤ ap_at (ap_MA p c R0 R1 R2 R3 R4 W0 W1 W2 W3) r 4) → (∀ r, r < q → ap_at (ap_MA p c R0 R1 R2 R3 R4 W0 W1 W2 W3) q 4 < ap_at (ap_MA p c R0 R1 R2 R3 R4 W0 W1 W2 W3) r 4) → q = 1 := by
  obtain ⟨h0, h1, h2, h3, h4⟩ := hl
  intro q hq k1 k2
  match q, hq, k1, k2 with
  | 0, _, k1, _ =>
    have z : R0 ≤ R1 := k1 1 (by omega)
    omega
  | 1, _, _, _ => rfl
  | 2, _, _, k2 =>
    have z : R2 < R1 := k2 1 (by omega)
    omega
  | 3, _, _, k2 =>
    have z : R3 < R1 := k2 1 (by omega)
    omega
  | 4, _, _, k2 =>
    have z : R4 < R1 := k2 1 (by omega)
    omega
  | n + 5, q, _, _ => exact absurd q (by omega)
theorem ap_nnM (hl : ap_nn R0 R1 R2 R3 R4) : ∀ r, r < 5 → 0 ≤ ap_at (ap_MA p c R0 R1 R2 R3 R4 W0 W1 W2 W3) r 4 :=
  ap_lt5 (P := fun r => 0 ≤ ap_at (ap_MA p c R0 R1 R2 R3 R4 W0 W1 W2 W3) r 4) hl.1 hl.2.1 hl.2.2.1 hl.2.2.2.1 hl.2.2.2.2
theorem ap_closeE2 : ∀ r c', r < 9 → c' < 5 → ap_at (ap_MA2 p c R0 R1 R2 R3 R4 W0 W1 W2 W3) r c' = if c' = 0 then ap_at (ap_ME2 p c R0 R1 R2 R3 R4 W0 W1 W2 W3) r 3 else if c' = 3 then 0 else ap_at (ap_ME2 p c R0 R1 R2 R3 R4 W0 W1 W2 W3) r c' :=
  ap_rc9 (ap_c5 rfl rfl rfl rfl rfl) (ap_c5 rfl rfl rfl rfl rfl) (ap_c5 rfl rfl rfl rfl rfl) (ap_c5 rfl rfl rfl rfl rfl) (ap_c5 rfl rfl rfl rfl rfl) (ap_c5 rfl rfl rfl rfl rfl) (ap_c5 rfl rfl rfl rfl rfl) (ap_c5 rfl rfl rfl rfl rfl) (ap_c5 rfl rfl rfl rfl rfl)
theorem ap_closeE0 : ∀ r c', r < 9 → c' < 5 → ap_at (ap_MA1 p c R0 R1 R2 R3 R4 W0 W1 W2 W3) r c' = if c' = 0 then ap_at (ap_ME0 p c R0 R1 R2 R3 R4 W0 W1 W2 W3) r 3 else if c' = 3 then 0 else ap_at (ap_ME0 p c R0 R1 R2 R3 R4 W0 W1 W2 W3) r c' :=
  ap_rc9 (ap_c5 rfl rfl rfl rfl rfl) (ap_c5 rfl rfl rfl rfl rfl) (ap_c5 rfl rfl rfl rfl rfl) (ap_c5 rfl rfl rfl rfl rfl) (ap_c5 rfl rfl rfl rfl rfl) (ap_c5 rfl rfl rfl rfl rfl) (ap_c5 rfl rfl rfl rfl rfl) (ap_c5 rfl rfl rfl rfl rfl) (ap_c5 rfl rfl rfl rfl rfl)
/-- what came out: the worth, the unit, the point -/
def ap_pt (c N B l2 : Int) (a : Nat → Int64) (x y : Int64) : Prop := x = ap_L ((c - 1) * N) ∧ y = ap_L B ∧ a 0 = ap_L N ∧ a 1 = ap_L N ∧ a 2 = ap_L (l2 * B)
theorem ap_sbpT {post : Int32 → St2 → Prop} {N B : Int} (hb : ap_bd p c R0 R1 R2 R3 R4 W0 W1 W2 W3) (hRW : ap_RW p b c l h R0 R1 R2 R3 R4 W0 W1 W2 W3) (hlh : ap_lh l h) (hK : ap_K p b c f0_present a1 a2 a3 a4) (eW : f0_without = -1) (e5 : ap_V a5 l) (e6 : ap_V a6 h) (e7 : ap_V a7 (ap_g c))
    (hway : ap_way p b c l h R0 R1 R2 R3 R4 N B)
    (H : ∀ (u' : Int64) (x1 x2 x3 x4 : Int32) (wt wb : Int64) (b8 b9 : Nat → Int32) (b10 : Nat → Int64) (b11 b12 : Nat → Int32) (b13 : Nat → Int64), ap_pt c N B (l 2) b13 wt wb → post 1 (f0_present, f0_without, x1, 0, u', x2, x3, x4, wt, wb, f0_lines, f0_empty, f0_hasHigh, f0_highTop, f0_highBottom, f0_hasLow, f0_lowTop, f0_lowBottom, f0_branches, f0_leastThird, f0_greatestThird, a1, a2, a3, a4, a5, a6, a7, b8, b9, b10, b11, b12, b13, a14, a15, a16, a17, a18, a19)) :
    wpX_solveByPoints post (f0_present, f0_without, f0_rows, f0_turned, f0_unit, f0_columns, f0_firstWorth, f0_worthCount, f0_worthTop, f0_worthBottom, f0_lines, f0_empty, f0_hasHigh, f0_highTop, f0_highBottom, f0_hasLow, f0_lowTop, f0_lowBottom, f0_branches, f0_leastThird, f0_greatestThird, a1, a2, a3, a4, a5, a6, a7, a8, a9, a10, a11, a12, a13, a14, a15, a16, a17, a18, a19) := by
  have hp := hb.1
  have hc := hb.2.1
  have hl : ∀ i, i < 3 → -100 ≤ l i ∧ l i ≤ 100 := fun i hi => by have := hlh i hi; omega
  have hh : ∀ i, i < 3 → -100 ≤ h i ∧ h i ≤ 100 := fun i hi => by have := hlh i hi; omega
  unfold wpX_solveByPoints
  refine ap_writeRows hK eW e5 e6 ap_D0 (fun b8 b9 w8 w9 => ?_)
  refine ap_setUp rfl e5 e6 e7 ap_D0 (fun i hi => ⟨?_, ?_⟩) (fun t bn cn s1 s2 n1 n2 => ?_)
  · exact ap_lt3 (P := fun i => -100 ≤ ap_g c i ∧ ap_g c i ≤ 100) (show -100 ≤ c ∧ c ≤ 100 by omega) (show (-100 : Int) ≤ -1 ∧ (-1 : Int) ≤ 100 by omega) (show (-100 : Int) ≤ 0 ∧ (0 : Int) ≤ 100 by omega) i hi
  · exact hl i hi
  have g := ap_gA hb hRW w8 w9 s1 s2 n1 n2
  obtain ⟨q0, q1, q2, q3, q4, y0, y1, y2, y3⟩ := hRW
  -- the tables at the end, read off
  have end1 : ∀ (u : Int64) (t : Nat → Int64) (bn cn : Nat → Int32) (x1 x2 x3 x4 : Int32) (cl : List Nat), N = b → B = p → ap_G 5 3 5 4 p (ap_MA1 p c R0 R1 R2 R3 R4 W0 W1 W2 W3) [1, 0, 5, 6, 7] cl x1 x2 x3 x4 u t bn cn → wpX_readOff (fun s => post 1 s) (f0_present, f0_without, x1, 0, u, x2, x3, x4, f0_worthTop, f0_worthBottom, f0_lines, f0_empty, f0_hasHigh, f0_highTop, f0_highBottom, f0_hasLow, f0_lowTop, f0_lowBottom, f0_branches, f0_leastThird, f0_greatestThird, a1, a2, a3, a4, a5, a6, a7, b8, b9, t, bn, cn, a13, a14, a15, a16, a17, a18, a19) := by
    intro u t bn cn x1 x2 x3 x4 cl eN eB g'
    refine ap_readOff g' (by omega) e5 e6 ap_D0 hl hh (fun a13' h13 => H _ _ _ _ _ _ _ _ _ _ _ _ _ ⟨?_, ?_, ?_, ?_, ?_⟩)
    · have z : -R0 + R0 * c + R1 * p + W0 * p = (c - 1) * N := by rw [eN, q0, q1, y0]; grind
      exact congrArg ap_L z
    · rw [eB]
    · have z : l 0 * p + R0 = N := by rw [eN, q0]; grind
      exact (h13 0 (by omega)).trans (congrArg ap_L z)
    · have z : l 1 * p + (R0 - R1 * p) = N := by rw [eN, q0, q1]; grind
      exact (h13 1 (by omega)).trans (congrArg ap_L z)
    · have z : l 2 * p + 0 = l 2 * B := by rw [eB]; omega
      exact (h13 2 (by omega)).trans (congrArg ap_L z)
  have end2 : ∀ (u : Int64) (t : Nat → Int64) (bn cn : Nat → Int32) (x1 x2 x3 x4 : Int32) (cl : List Nat), N = h 0 → B = 1 → ap_G 5 3 5 4 1 (ap_MA2 p c R0 R1 R2 R3 R4 W0 W1 W2 W3) [3, 0, 1, 6, 7] cl x1 x2 x3 x4 u t bn cn → wpX_readOff (fun s => post 1 s) (f0_present, f0_without, x1, 0, u, x2, x3, x4, f0_worthTop, f0_worthBottom, f0_lines, f0_empty, f0_hasHigh, f0_highTop, f0_highBottom, f0_hasLow, f0_lowTop, f0_lowBottom, f0_branches, f0_leastThird, f0_greatestThird, a1, a2, a3, a4, a5, a6, a7, b8, b9, t, bn, cn, a13, a14, a15, a16, a17, a18, a19) := by
    intro u t bn cn x1 x2 x3 x4 cl eN eB g'
    refine ap_readOff g' (by omega) e5 e6 ap_D0 hl hh (fun a13' h13 => H _ _ _ _ _ _ _ _ _ _ _ _ _ ⟨?_, ?_, ?_, ?_, ?_⟩)
    · have z : R1 - R2 + W0 + R2 * c = (c - 1) * N := by rw [eN, q1, q2, y0]; grind
      exact congrArg ap_L z
    · rw [eB]
    · have z : l 0 * 1 + R2 = N := by omega
      exact (h13 0 (by omega)).trans (congrArg ap_L z)
    · have z : l 1 * 1 + (-R1 + R2) = N := by omega
      exact (h13 1 (by omega)).trans (congrArg ap_L z)
    · have z : l 2 * 1 + 0 = l 2 * B := by rw [eB]; omega
      exact (h13 2 (by omega)).trans (congrArg ap_L z)
  rcases hway with ⟨k0, k1, k2, k3, k4, eN, eB⟩ | ⟨k0, k1, k2, k3, k4, eN, eB⟩ | ⟨k0, k1, k2, k3, eN, eB⟩ | ⟨k0, k1, k2, k3, k4, eN, eB⟩ | ⟨k0, k1, k2, k3, k4, eN, eB⟩
  · refine ap_findOk g (ap_nnM k0) (br_f (by decide) ?_)
    exact ap_climbA1 hb k1 k2 k3 k4 g (fun u' t' b' c' g' => end1 _ _ _ _ _ _ _ _ _ eN eB g')
  · refine ap_findOk g (ap_nnM k0) (br_f (by decide) ?_)
    exact ap_climbA2 hb k1 k2 k3 k4 g (fun u' t' b' c' g' => end2 _ _ _ _ _ _ _ _ _ eN eB g')
  · refine ap_findOk g (ap_nnM k0) (br_f (by decide) ?_)
    refine ap_climbA0 hb k1 k2 g (fun u' t' b' c' g' => ?_)
    refine ap_readOff g' (by omega) e5 e6 ap_D0 hl hh (fun a13' h13 => H _ _ _ _ _ _ _ _ _ _ _ _ _ ⟨?_, ?_, ?_, ?_, ?_⟩)
    · have z : R0 * c + W0 * p = (c - 1) * N := by rw [eN, q0, y0, k3]; grind
      exact congrArg ap_L z
    · rw [eB]
    · have z : l 0 * p + R0 = N := by rw [eN, q0]; grind
      exact (h13 0 (by omega)).trans (congrArg ap_L z)
    · have z : l 1 * p + 0 = N := by rw [eN, k3]; omega
      exact (h13 1 (by omega)).trans (congrArg ap_L z)
    · have z : l 2 * p + 0 = l 2 * B := by rw [eB]; omega
      exact (h13 2 (by omega)).trans (congrArg ap_L z)
  · refine ap_find77 (low := 1) hb (by omega) k0.1 (ap_lowIs1 k0) g (fun n t' c' g' => ?_)
    refine pk_le 5 5 (fun _ => ?_) (fun z => absurd z (by omega))
    refine ap_exG (-1) (ap_MB13 p c R0 R1 R2 R3 R4 W0 W1 W2 W3) 1 3 1 [3, 99, 5, 6, 7] [0, 1, 2, 4] g' rfl rfl rfl (by omega) (by omega) (by decide) (Or.inr ⟨rfl, show (-1 : Int) < 0 by decide⟩) (ap_cB13 hb) (fun u1 t1 b1 c1 g1 => ?_)
    refine ap_climbB 2 1 [3, 99, 1, 6, 7] [0, 5, 2, 4] (ap_MB2 p c R0 R1 R2 R3 R4 W0 W1 W2 W3) hb g1 rfl rfl rfl (by omega) (show (0 : Int) < 1 by decide) (ap_lB2 hp hc k2 (by omega) k3 k4) (ap_cB2 hb) (ap_eB2F hp hc) (fun u2 t2 b2 c2 g2 => ?_)
    refine ap_cell 9 4 (by omega) ?_
    rw [(g2.2.2.2.1 9 4 (by omega) (by omega)).1]
    refine br_t (show ap_L R2 = 0 from by rw [k1]; rfl) ?_
    refine ap_onPoint (ap_ME2 p c R0 R1 R2 R3 R4 W0 W1 W2 W3) 1 [3, 0, 1, 6, 7] [99, 5, 2, 4] g2 rfl (by decide) rfl rfl rfl rfl (show (-1 : Int) < 0 by decide) (ap_cE2 hb) ap_closeE2 (fun u3 t3 b3 c3 g3 => ?_)
    refine br_f (by decide) ?_
    exact ap_climbE g3 (ap_eA2F hp hc) (end2 _ _ _ _ _ _ _ _ _ eN eB g3)
  · refine ap_find77 (low := 1) hb (by omega) k0.1 (ap_lowIs1 k0) g (fun n t' c' g' => ?_)
    refine pk_le 5 5 (fun _ => ?_) (fun z => absurd z (by omega))
    refine ap_exG (-1) (ap_MB13 p c R0 R1 R2 R3 R4 W0 W1 W2 W3) 1 3 1 [3, 99, 5, 6, 7] [0, 1, 2, 4] g' rfl rfl rfl (by omega) (by omega) (by decide) (Or.inr ⟨rfl, show (-1 : Int) < 0 by decide⟩) (ap_cB13 hb) (fun u1 t1 b1 c1 g1 => ?_)
    refine ap_climbB 0 1 [1, 99, 5, 6, 7] [0, 3, 2, 4] (ap_MB0 p c R0 R1 R2 R3 R4 W0 W1 W2 W3) hb g1 rfl rfl rfl (by omega) (show (0 : Int) < 1 by decide) (ap_lB0 hp hc k2 (by omega) k3 k4) (ap_cB0 hb) (ap_eB0F hp hc) (fun u2 t2 b2 c2 g2 => ?_)
    refine ap_cell 9 4 (by omega) ?_
    rw [(g2.2.2.2.1 9 4 (by omega) (by omega)).1]
    refine br_t (show ap_L R0 = 0 from by rw [k1]; rfl) ?_
    refine ap_onPoint (ap_ME0 p c R0 R1 R2 R3 R4 W0 W1 W2 W3) p [1, 0, 5, 6, 7] [99, 3, 2, 4] g2 rfl (by decide) (show (-1) * (-p) = p by omega) rfl rfl rfl (show -p < 0 by omega) (ap_cE0 hb) ap_closeE0 (fun u3 t3 b3 c3 g3 => ?_)
    refine br_f (by decide) ?_
    exact ap_climbE g3 (ap_eA1F hp hc) (end1 _ _ _ _ _ _ _ _ _ eN eB g3)
/-- the ways to no point -/
def ap_nay (R0 R1 R2 R3 R4 : Int) : Prop :=
  (ap_low1 R0 R1 R2 R3 R4 ∧ R0 < 0 ∧ R0 ≤ R2 ∧ 2 * R0 - R1 ≤ R3 ∧ R0 ≤ R4)
  ∨ (ap_low1 R0 R1 R2 R3 R4 ∧ R3 + R1 < 0 ∧ R3 + R1 < 2 * R0 ∧ R3 + R1 < 2 * R2 ∧ R3 + R1 ≤ 2 * R4)
  ∨ (R0 < 0 ∧ R0 ≤ R1 ∧ R0 ≤ R2 ∧ R0 ≤ R3 ∧ R0 ≤ R4)
theorem ap_sbpF {post : Int32 → St2 → Prop} (hb : ap_bd p c R0 R1 R2 R3 R4 W0 W1 W2 W3) (hRW : ap_RW p b c l h R0 R1 R2 R3 R4 W0 W1 W2 W3) (hlh : ap_lh l h) (hK : ap_K p b c f0_present a1 a2 a3 a4) (eW : f0_without = -1) (e5 : ap_V a5 l) (e6 : ap_V a6 h) (e7 : ap_V a7 (ap_g c))
    (hnay : ap_nay R0 R1 R2 R3 R4)
    (H : ∀ (u' : Int64) (x1 x2 x3 x4 : Int32) (b8 b9 : Nat → Int32) (b10 : Nat → Int64) (b11 b12 : Nat → Int32), post 0 (f0_present, f0_without, x1, 0, u', x2, x3, x4, f0_worthTop, f0_worthBottom, f0_lines, f0_empty, f0_hasHigh, f0_highTop, f0_highBottom, f0_hasLow, f0_lowTop, f0_lowBottom, f0_branches, f0_leastThird, f0_greatestThird, a1, a2, a3, a4, a5, a6, a7, b8, b9, b10, b11, b12, a13, a14, a15, a16, a17, a18, a19)) :
    wpX_solveByPoints post (f0_present, f0_without, f0_rows, f0_turned, f0_unit, f0_columns, f0_firstWorth, f0_worthCount, f0_worthTop, f0_worthBottom, f0_lines, f0_empty, f0_hasHigh, f0_highTop, f0_highBottom, f0_hasLow, f0_lowTop, f0_lowBottom, f0_branches, f0_leastThird, f0_greatestThird, a1, a2, a3, a4, a5, a6, a7, a8, a9, a10, a11, a12, a13, a14, a15, a16, a17, a18, a19) := by
  have hp := hb.1
  have hc := hb.2.1
  have hl : ∀ i, i < 3 → -100 ≤ l i ∧ l i ≤ 100 := fun i hi => by have := hlh i hi; omega
  have hR := hb.2.2
  unfold wpX_solveByPoints
  refine ap_writeRows hK eW e5 e6 ap_D0 (fun b8 b9 w8 w9 => ?_)
  refine ap_setUp rfl e5 e6 e7 ap_D0 (fun i hi => ⟨?_, ?_⟩) (fun t bn cn s1 s2 n1 n2 => ?_)
  · exact ap_lt3 (P := fun i => -100 ≤ ap_g c i ∧ ap_g c i ≤ 100) (show -100 ≤ c ∧ c ≤ 100 by omega) (show (-100 : Int) ≤ -1 ∧ (-1 : Int) ≤ 100 by omega) (show (-100 : Int) ≤ 0 ∧ (0 : Int) ≤ 100 by omega) i hi
  · exact hl i hi
  have g := ap_gA hb hRW w8 w9 s1 s2 n1 n2
  rcases hnay with ⟨k0, k1, k2, k3, k4⟩ | ⟨k0, k1, k2, k3, k4⟩ | ⟨k0, k1, k2, k3, k4⟩
  · refine ap_find77 (low := 1) hb (by omega) k0.1 (ap_lowIs1 k0) g (fun n t' c' g' => ?_)
    refine pk_le 5 5 (fun _ => ?_) (fun z => absurd z (by omega))
    refine ap_exG (-1) (ap_MB13 p c R0 R1 R2 R3 R4 W0 W1 W2 W3) 1 3 1 [3, 99, 5, 6, 7] [0, 1, 2, 4] g' rfl rfl rfl (by omega) (by omega) (by decide) (Or.inr ⟨rfl, show (-1 : Int) < 0 by decide⟩) (ap_cB13 hb) (fun u1 t1 b1 c1 g1 => ?_)
    refine ap_climbB 0 1 [1, 99, 5, 6, 7] [0, 3, 2, 4] (ap_MB0 p c R0 R1 R2 R3 R4 W0 W1 W2 W3) hb g1 rfl rfl rfl (by omega) (show (0 : Int) < 1 by decide) (ap_lB0 hp hc k2 (by omega) k3 k4) (ap_cB0 hb) (ap_eB0F hp hc) (fun u2 t2 b2 c2 g2 => ?_)
    refine ap_cell 9 4 (by omega) ?_
    rw [(g2.2.2.2.1 9 4 (by omega) (by omega)).1]
    refine br_f (show ¬ ap_L R0 = 0 from by rw [ap_Leq0 ⟨by omega, by omega⟩]; omega) ?_
    refine ap_noPoint 1 g2 (by omega) rfl (fun r hr => by rw [show r = 0 by omega]; decide) (show -p ≠ 0 by omega) (fun u3 t3 b3 c3 => ?_)
    exact br_t rfl (H _ _ _ _ _ _ _ _ _ _)
  · refine ap_find77 (low := 1) hb (by omega) k0.1 (ap_lowIs1 k0) g (fun n t' c' g' => ?_)
    refine pk_le 5 5 (fun _ => ?_) (fun z => absurd z (by omega))
    refine ap_exG (-1) (ap_MB13 p c R0 R1 R2 R3 R4 W0 W1 W2 W3) 1 3 1 [3, 99, 5, 6, 7] [0, 1, 2, 4] g' rfl rfl rfl (by omega) (by omega) (by decide) (Or.inr ⟨rfl, show (-1 : Int) < 0 by decide⟩) (ap_cB13 hb) (fun u1 t1 b1 c1 g1 => ?_)
    refine ap_climbB 3 2 [3, 99, 5, 1, 7] [0, 6, 2, 4] (ap_MB3 p c R0 R1 R2 R3 R4 W0 W1 W2 W3) hb g1 rfl rfl rfl (by omega) (show (0 : Int) < 2 by decide) (ap_lB3 hp hc k2 (by omega) k3 k4) (ap_cB3 hb) (ap_eB3F hp hc) (fun u2 t2 b2 c2 g2 => ?_)
    refine ap_cell 9 4 (by omega) ?_
    rw [(g2.2.2.2.1 9 4 (by omega) (by omega)).1]
    refine br_f (show ¬ ap_L (R1 + R3) = 0 from by rw [ap_Leq0 ⟨by omega, by omega⟩]; omega) ?_
    refine ap_noPoint 1 g2 (by omega) rfl (fun r hr => by rw [show r = 0 by omega]; decide) (show (-1 : Int) ≠ 0 by decide) (fun u3 t3 b3 c3 => ?_)
    exact br_t rfl (H _ _ _ _ _ _ _ _ _ _)
  · refine ap_find77 (low := 0) hb (by omega) k0 ?_ g (fun n t' c' g' => ?_)
    · intro q hq k5 k6
      match q, hq, k6 with
      | 0, _, _ => rfl
      | 1, _, k6 =>
        have z : R1 < R0 := k6 0 (by omega)
        omega
      | 2, _, k6 =>
        have z : R2 < R0 := k6 0 (by omega)
        omega
      | 3, _, k6 =>
        have z : R3 < R0 := k6 0 (by omega)
        omega
      | 4, _, k6 =>
        have z : R4 < R0 := k6 0 (by omega)
        omega
      | n + 5, q, _ => exact absurd q (by omega)
    refine pk_le 5 5 (fun _ => ?_) (fun z => absurd z (by omega))
    refine ap_exG (-1) (ap_MB03 p c R0 R1 R2 R3 R4 W0 W1 W2 W3) 0 3 1 [99, 4, 5, 6, 7] [0, 1, 2, 3] g' rfl rfl rfl (by omega) (by omega) (by decide) (Or.inr ⟨rfl, show (-1 : Int) < 0 by decide⟩) (ap_cB03 hb) (fun u1 t1 b1 c1 g1 => ?_)
    refine ap_climbE g1 (ap_eB03F hp hc) ?_
    refine ap_cell 9 4 (by omega) ?_
    rw [(g1.2.2.2.1 9 4 (by omega) (by omega)).1]
    refine br_f (show ¬ ap_L R0 = 0 from by rw [ap_Leq0 ⟨by omega, by omega⟩]; omega) ?_
    refine ap_noPoint 0 g1 (by omega) rfl (fun r hr => absurd hr (by omega)) (show -p ≠ 0 by omega) (fun u3 t3 b3 c3 => ?_)
    exact br_t rfl (H _ _ _ _ _ _ _ _ _ _)
end
end
section
/-- the greatest common divisor as it is counted there -/
def ap_gc (x y : Nat) : Nat := if Nat.gcd x y = 0 then 1 else Nat.gcd x y
theorem ap_gc_pos (x y : Nat) : 0 < ap_gc x y := by
  unfold ap_gc
  split <;> omega
theorem ap_gc_dvl (x y : Nat) : ap_gc x y ∣ x := by
  unfold ap_gc
  split
  · exact Nat.one_dvd x
  · exact Nat.gcd_dvd_left x y
theorem ap_gc_dvr (x y : Nat) : ap_gc x y ∣ y := by
  unfold ap_gc
  split
  · exact Nat.one_dvd y
  · exact Nat.gcd_dvd_right x y
theorem ap_gc_le {x y n : Nat} (h1 : x ≤ n) (h2 : y ≤ n) (h3 : 1 ≤ n) : ap_gc x y ≤ n := by
  unfold ap_gc
  split
  · exact h3
  · rename_i h
    by_cases z : x = 0
    · subst z
      rw [Nat.gcd_zero_left]
      exact h2
    · exact Nat.le_trans (Nat.gcd_le_left y (by omega)) h1
theorem ap_div28 {post : Int64 → Prop} : ∀ (n x y : Nat), y < n → x < 2 ^ 63 → y < 2 ^ 63 → post (lN (ap_gc x y)) → wX_divisor_28 post n (lN x) (lN y) := by
  intro n
  induction n with
  | zero => intro x y h
            exact absurd h (by omega)
  | succ n ih =>
    intro x y hy hx2 hy2 H
    refine ek_if (pk_lEQ (b := 0) hy2 (by omega)) (fun z => ?_) (fun z => ⟨?_, ?_⟩)
    · subst z
      refine ek_if (pk_lEQ (b := 0) hx2 (by omega)) (fun w => ?_) (fun w => ?_)
      · subst w
        exact H
      · unfold ap_gc at H
        rw [Nat.gcd_zero_right, if_neg w] at H
        exact H
    · exact fun q => z ((pk_lEQ (b := 0) hy2 (by omega)).mp q)
    · rw [pk_lRem hx2 (by omega) hy2]
      refine nm_e (ih y (x % y) ?_ hy2 ?_ ?_)
      · have := Nat.mod_lt x (show 0 < y by omega)
        omega
      · have := Nat.mod_lt x (show 0 < y by omega)
        omega
      · have e : ap_gc y (x % y) = ap_gc x y := by
          unfold ap_gc
          rw [Nat.gcd_comm y (x % y), ← Nat.gcd_rec, Nat.gcd_comm]
        rw [e]
        exact H
theorem ap_Lpos {z : Int} (h : 0 ≤ z) : ap_L z = lN z.natAbs := by
  rw [ap_lN]
  congr 1
  omega
theorem ap_Lneg' {z : Int} (h : z < 0) : -ap_L z = lN z.natAbs := by
  rw [ap_lN, ap_Lneg]
  congr 1
  omega
theorem ap_divisor {post : Int64 → Prop} {a b : Int} (ha : ap_b a) (hb : ap_b b) (H : post (lN (ap_gc a.natAbs b.natAbs))) : wpX_divisor post () (ap_L a) (ap_L b) := by
  have ha' := ha
  have hb' := hb
  obtain ⟨h1, h2⟩ := ha
  obtain ⟨h3, h4⟩ := hb
  have key : ∀ z0 : Int64, z0 = lN a.natAbs → wX_divisor_12 post (ap_L b) z0 := by
    intro z0 e
    subst e
    refine ek_if (ap_Lge0 hb') (fun w => ?_) (fun w => ?_)
    · rw [ap_Lpos w]
      exact ⟨_, ap_div28 (b.natAbs + 1) _ _ (by omega) (by omega) (by omega) H⟩
    · rw [ap_Lneg' (by omega)]
      exact nm_e ⟨_, ap_div28 (b.natAbs + 1) _ _ (by omega) (by omega) (by omega) H⟩
  exact ek_if (ap_Lge0 ha') (fun z => key _ (ap_Lpos z)) (fun z => key _ (ap_Lneg' (by omega)))
theorem ap_gcN {T B : Nat} (hB : 0 < B) : ap_gc T B = Nat.gcd T B := by
  unfold ap_gc
  rw [if_neg]
  intro h
  have := Nat.gcd_pos_of_pos_right T hB
  omega
theorem ap_lNL (n : Nat) : lN n = ap_L (n : Int) := ap_lN n
theorem ap_topOf {post : Int32 → Prop} {T B : Nat} (hT : T < 2 ^ 60) (hB2 : B < 2 ^ 60) (hB : 0 < B) (H : post (nI (T / Nat.gcd T B))) : wpX_topOf post () (lN T) (lN B) := by
  unfold wpX_topOf
  rw [ap_lNL T, ap_lNL B]
  refine ap_divisor ⟨by omega, by omega⟩ ⟨by omega, by omega⟩ ?_
  rw [Int.natAbs_natCast, Int.natAbs_natCast, ap_gcN hB, ← ap_lNL T]
  have hg : 0 < Nat.gcd T B := Nat.gcd_pos_of_pos_right T hB
  have hl : Nat.gcd T B ≤ B := Nat.gcd_le_right T hB
  have ne : ¬ lN (Nat.gcd T B) = 0 := fun q => by
    have := (pk_lEQ (b := 0) (by omega) (by omega)).mp q
    omega
  refine br_f ne ⟨ne, ?_⟩
  rw [pk_lDiv (by omega) hg (by omega), lN_i]
  exact H
theorem ap_bottomOf {post : Int32 → Prop} {T B : Nat} (hT : T < 2 ^ 60) (hB2 : B < 2 ^ 60) (hB : 0 < B) (H : post (nI (B / Nat.gcd T B))) : wpX_bottomOf post () (lN T) (lN B) := by
  unfold wpX_bottomOf
  rw [ap_lNL T, ap_lNL B]
  refine ap_divisor ⟨by omega, by omega⟩ ⟨by omega, by omega⟩ ?_
  rw [Int.natAbs_natCast, Int.natAbs_natCast, ap_gcN hB, ← ap_lNL B]
  have hg : 0 < Nat.gcd T B := Nat.gcd_pos_of_pos_right T hB
  have hl : Nat.gcd T B ≤ B := Nat.gcd_le_right T hB
  have ne : ¬ lN (Nat.gcd T B) = 0 := fun q => by
    have := (pk_lEQ (b := 0) (by omega) (by omega)).mp q
    omega
  refine br_f ne ⟨ne, ?_⟩
  rw [pk_lDiv (by omega) hg (by omega), lN_i]
  exact H
/-- fractions that are equal are equal when reduced -/
theorem ap_frac {T B N p : Nat} (h : T * p = N * B) (hB : 0 < B) (hp : 0 < p) : T / Nat.gcd T B = N / Nat.gcd N p ∧ B / Nat.gcd T B = p / Nat.gcd N p := by
  have e : Nat.gcd T B * p = Nat.gcd N p * B := by
    rw [← Nat.gcd_mul_right, ← Nat.gcd_mul_right, h, Nat.mul_comm B p]
  have hg : 0 < Nat.gcd T B := Nat.gcd_pos_of_pos_right T hB
  have hd : 0 < Nat.gcd N p := Nat.gcd_pos_of_pos_right N hp
  obtain ⟨t, ht⟩ := Nat.gcd_dvd_left T B
  obtain ⟨q, hq⟩ := Nat.gcd_dvd_right T B
  generalize hgg : Nat.gcd T B = g at *
  generalize hdd : Nat.gcd N p = d at *
  have e2 : p = d * q := by
    rw [hq] at e
    have : g * p = g * (d * q) := by rw [e, Nat.mul_left_comm]
    exact Nat.eq_of_mul_eq_mul_left hg this
  have hq0 : 0 < q := by
    rcases Nat.eq_zero_or_pos q with z | z
    · subst z
      rw [Nat.mul_zero] at hq
      omega
    · exact z
  have e3 : N = d * t := by
    rw [ht, hq, e2] at h
    have : g * q * (d * t) = g * q * N := by
      have a1 : g * t * (d * q) = g * q * (d * t) := by
        simp only [Nat.mul_comm, Nat.mul_left_comm]
      have a2 : N * (g * q) = g * q * N := Nat.mul_comm _ _
      rw [← a1, h, a2]
    exact (Nat.eq_of_mul_eq_mul_left (Nat.mul_pos hg hq0) this).symm
  constructor
  · rw [ht, e3, Nat.mul_div_cancel_left t hg, Nat.mul_div_cancel_left t hd]
  · rw [hq, e2, Nat.mul_div_cancel_left q hg, Nat.mul_div_cancel_left q hd]
end
section
section
variable {f0_present : Int32}
variable {f0_without : Int32}
variable {f0_rows : Int32}
variable {f0_turned : Int32}
variable {f0_unit : Int64}
variable {f0_columns : Int32}
variable {f0_firstWorth : Int32}
variable {f0_worthCount : Int32}
variable {f0_worthTop : Int64}
variable {f0_worthBottom : Int64}
variable {f0_lines : Int32}
variable {f0_empty : Int32}
variable {f0_hasHigh : Int32}
variable {f0_highTop : Int64}
variable {f0_highBottom : Int64}
variable {f0_hasLow : Int32}
variable {f0_lowTop : Int64}
variable {f0_lowBottom : Int64}
variable {f0_branches : Int32}
variable {f0_leastThird : Int32}
variable {f0_greatestThird : Int32}
variable {a1 : Nat → Int32}
variable {a2 : Nat → Int32}
variable {a3 : Nat → Int32}
variable {a4 : Nat → Int32}
variable {a5 : Nat → Int32}
variable {a6 : Nat → Int32}
variable {a7 : Nat → Int32}
variable {a8 : Nat → Int32}
variable {a9 : Nat → Int32}
variable {a10 : Nat → Int64}
variable {a11 : Nat → Int32}
variable {a12 : Nat → Int32}
variable {a13 : Nat → Int64}
variable {a14 : Nat → Int64}
variable {a15 : Nat → Int64}
variable {a16 : Nat → Int64}
variable {a17 : Nat → Int64}
variable {a18 : Nat → Int32}
variable {a19 : Nat → Int32}
theorem ap_loses {post : Int32 → Prop} {ncol fw wc : Nat} {u : Int} {M : List (List Int)} {rn cn : List Nat} (cc d row : Nat) (g : ap_G 5 ncol fw wc u M rn cn f0_rows f0_columns f0_firstWorth f0_worthCount f0_unit a10 a11 a12) (hwc : 1 ≤ wc) (hc : cc < 4) (hd : d < 4) (hr : row < 5)
    (h : ap_at M fw cc * -(ap_at M row d) < ap_at M fw d * -(ap_at M row cc)) (H : post 1) : wpX_losesLess post (f0_present, f0_without, f0_rows, f0_turned, f0_unit, f0_columns, f0_firstWorth, f0_worthCount, f0_worthTop, f0_worthBottom, f0_lines, f0_empty, f0_hasHigh, f0_highTop, f0_highBottom, f0_hasLow, f0_lowTop, f0_lowBottom, f0_branches, f0_leastThird, f0_greatestThird, a1, a2, a3, a4, a5, a6, a7, a8, a9, a10, a11, a12, a13, a14, a15, a16, a17, a18, a19) (nI cc) (nI d) (nI row) := by
  obtain ⟨⟨g1, g2, g3, g4, g5⟩, ⟨g6, g7⟩, ⟨g8, g9, g10, g11, g12, g13⟩, g14, g15, g16⟩ := g
  obtain ⟨e1, s1⟩ := g14 row cc (by omega) (by omega)
  obtain ⟨e2, s2⟩ := g14 row d (by omega) (by omega)
  obtain ⟨e3, s3⟩ := g14 fw cc (by omega) (by omega)
  obtain ⟨e4, s4⟩ := g14 fw d (by omega) (by omega)
  have s1' : ap_s (-(ap_at M row cc)) := by
    obtain ⟨q1, q2⟩ := s1
    exact ⟨by omega, by omega⟩
  have s2' : ap_s (-(ap_at M row d)) := by
    obtain ⟨q1, q2⟩ := s2
    exact ⟨by omega, by omega⟩
  unfold wpX_losesLess
  refine ap_cell row cc (by omega) ?_
  rw [e1]
  refine nm_r (ap_Lneg _) ?_
  refine ap_cell row d (by omega) ?_
  rw [e2]
  refine nm_r (ap_Lneg _) ⟨1, ?_⟩
  refine pk_le wc 0 (fun z => absurd z (by omega)) (fun _ => ?_) g4
  refine ap_cell fw cc (by omega) ?_ (by rw [g3]; exact nI_add fw 0)
  rw [e3]
  refine nm_r (ap_Lmul _ _) ?_
  refine ap_cell fw d (by omega) ?_ (by rw [g3]; exact nI_add fw 0)
  rw [e4]
  refine nm_r (ap_Lmul _ _) ?_
  refine ek_if (ap_Leq (ap_smb s3 s2') (ap_smb s4 s1')) (fun z => absurd z (by omega)) (fun _ => ?_)
  exact ek_if (ap_Lle (ap_smb s4 s1') (ap_smb s3 s2')) (fun z => absurd z (by omega)) (fun _ => H)
/-- the column for a broken row: the first, or the second, which loses less -/
theorem ap_w79a {post : Int32 → St2 → Prop} {J53 : Int32 → ap_JS} {x1 : Int32} {u : Int} {M : List (List Int)} {rn cn : List Nat} (row : Nat) (g : ap_G 5 3 5 4 u M rn cn f0_rows f0_columns f0_firstWorth f0_worthCount f0_unit a10 a11 a12) (hr : row < 5)
    (h0 : ap_at M row 0 < 0) (h1 : 0 ≤ ap_at M row 1) (h2 : 0 ≤ ap_at M row 2) (H : wX_solveByWorth_79 post J53 x1 (nI row) f0_present f0_without f0_rows f0_turned f0_unit f0_columns f0_firstWorth f0_worthCount f0_worthTop f0_worthBottom f0_lines f0_empty f0_hasHigh f0_highTop f0_highBottom f0_hasLow f0_lowTop f0_lowBottom f0_branches f0_leastThird f0_greatestThird a1 a2 a3 a4 a5 a6 a7 a8 a9 a10 a11 a12 a13 a14 a15 a16 a17 a18 a19 1 (nI 0) (nI 3)) : ∃ n, wX_solveByWorth_79 post J53 x1 (nI row) f0_present f0_without f0_rows f0_turned f0_unit f0_columns f0_firstWorth f0_worthCount f0_worthTop f0_worthBottom f0_lines f0_empty f0_hasHigh f0_highTop f0_highBottom f0_hasLow f0_lowTop f0_lowBottom f0_branches f0_leastThird f0_greatestThird a1 a2 a3 a4 a5 a6 a7 a8 a9 a10 a11 a12 a13 a14 a15 a16 a17 a18 a19 n (-1) 0 := by
  obtain ⟨⟨g1, g2, g3, g4, g5⟩, ⟨g6, g7⟩, ⟨g8, g9, g10, g11, g12, g13⟩, g14, g15, g16⟩ := g
  obtain ⟨e0, s0⟩ := g14 row 0 (by omega) (by omega)
  obtain ⟨e1, s1⟩ := g14 row 1 (by omega) (by omega)
  obtain ⟨e2, s2⟩ := g14 row 2 (by omega) (by omega)
  refine ⟨1 + 1 + 1 + 1, ?_⟩
  refine pk_le 3 0 (fun z => absurd z (by omega)) (fun _ => ap_cell row 0 (by omega) ?_) g2
  rw [e0]
  refine ek_if (ap_Lge0 (ap_sb s0)) (fun z => absurd z (by omega)) (fun _ => br_t (by decide) (nm_r (nI_1 0) ?_))
  refine pk_le 3 1 (fun z => absurd z (by omega)) (fun _ => ap_cell row 1 (by omega) ?_) g2
  rw [e1]
  refine ek_if (ap_Lge0 (ap_sb s1)) (fun _ => nm_r (nI_1 1) ?_) (fun z => absurd h1 z)
  refine pk_le 3 2 (fun z => absurd z (by omega)) (fun _ => ap_cell row 2 (by omega) ?_) g2
  rw [e2]
  exact ek_if (ap_Lge0 (ap_sb s2)) (fun _ => nm_r (nI_1 2) H) (fun z => absurd h2 z)
theorem ap_w79b {post : Int32 → St2 → Prop} {J53 : Int32 → ap_JS} {x1 : Int32} {u : Int} {M : List (List Int)} {rn cn : List Nat} (row : Nat) (g : ap_G 5 3 5 4 u M rn cn f0_rows f0_columns f0_firstWorth f0_worthCount f0_unit a10 a11 a12) (hr : row < 5)
    (h0 : ap_at M row 0 < 0) (h1 : ap_at M row 1 < 0) (h2 : 0 ≤ ap_at M row 2) (hl : ap_at M 5 1 * -(ap_at M row 0) < ap_at M 5 0 * -(ap_at M row 1)) (H : wX_solveByWorth_79 post J53 x1 (nI row) f0_present f0_without f0_rows f0_turned f0_unit f0_columns f0_firstWorth f0_worthCount f0_worthTop f0_worthBottom f0_lines f0_empty f0_hasHigh f0_highTop f0_highBottom f0_hasLow f0_lowTop f0_lowBottom f0_branches f0_leastThird f0_greatestThird a1 a2 a3 a4 a5 a6 a7 a8 a9 a10 a11 a12 a13 a14 a15 a16 a17 a18 a19 1 (nI 1) (nI 3)) : ∃ n, wX_solveByWorth_79 post J53 x1 (nI row) f0_present f0_without f0_rows f0_turned f0_unit f0_columns f0_firstWorth f0_worthCount f0_worthTop f0_worthBottom f0_lines f0_empty f0_hasHigh f0_highTop f0_highBottom f0_hasLow f0_lowTop f0_lowBottom f0_branches f0_leastThird f0_greatestThird a1 a2 a3 a4 a5 a6 a7 a8 a9 a10 a11 a12 a13 a14 a15 a16 a17 a18 a19 n (-1) 0 := by
  have gg := g
  obtain ⟨⟨g1, g2, g3, g4, g5⟩, ⟨g6, g7⟩, ⟨g8, g9, g10, g11, g12, g13⟩, g14, g15, g16⟩ := g
  obtain ⟨e0, s0⟩ := g14 row 0 (by omega) (by omega)
  obtain ⟨e1, s1⟩ := g14 row 1 (by omega) (by omega)
  obtain ⟨e2, s2⟩ := g14 row 2 (by omega) (by omega)
  refine ⟨1 + 1 + 1 + 1, ?_⟩
  refine pk_le 3 0 (fun z => absurd z (by omega)) (fun _ => ap_cell row 0 (by omega) ?_) g2
  rw [e0]
  refine ek_if (ap_Lge0 (ap_sb s0)) (fun z => absurd z (by omega)) (fun _ => br_t (by decide) (nm_r (nI_1 0) ?_))
  refine pk_le 3 1 (fun z => absurd z (by omega)) (fun _ => ap_cell row 1 (by omega) ?_) g2
  rw [e1]
  refine ek_if (ap_Lge0 (ap_sb s1)) (fun z => absurd z (by omega)) (fun _ => br_f (by decide) ?_)
  refine ap_loses 1 0 row gg (by omega) (by omega) (by omega) hr hl ?_
  refine br_f (by decide) (nm_r (nI_1 1) ?_)
  refine pk_le 3 2 (fun z => absurd z (by omega)) (fun _ => ap_cell row 2 (by omega) ?_) g2
  rw [e2]
  exact ek_if (ap_Lge0 (ap_sb s2)) (fun _ => nm_r (nI_1 2) H) (fun z => absurd h2 z)
variable {p b c R0 R1 R2 R3 R4 W0 W1 W2 W3 : Int}
def ap_d1 : Nat → Bool := fun i => decide (i = 0)
theorem ap_Dd1 : ap_D 1 ap_d1 := by
  intro i hi
  match i, hi with
  | 0, _ => exact ⟨fun z => absurd z (by decide), fun z => absurd z (by decide)⟩
  | 1, _ => exact ⟨fun _ => rfl, fun _ => by decide⟩
  | 2, _ => exact ⟨fun _ => rfl, fun _ => by decide⟩
  | n + 3, q => exact absurd q (by omega)
theorem ap_gD {a8' a9' : Nat → Int32} {t : Nat → Int64} {bn cn : Nat → Int32} (hb : ap_bd p c (b - p * 20) (-20) 20 20 20 (c * 20) (-20) 0 0) (w8 : ap_W8 a8' ap_d1 p) (w9 : ap_W9 a9' ap_d1 p b (fun _ => 0) (fun _ => 20))
    (s1 : ∀ r, r < 5 → (∀ i, i < 3 → t (r * 5 + i) = (a8' (r * 3 + i)).toInt64) ∧ t (r * 5 + 3) = 0 ∧ t (r * 5 + 4) = (a9' r).toInt64)
    (s2 : ∀ w, w < 4 → (∀ i, i < 3 → t ((5 + w) * 5 + i) = ap_L (-(ap_sg ap_d1 i (ap_nm (ap_g c) w i)))) ∧ t ((5 + w) * 5 + 3) = 0 ∧ t ((5 + w) * 5 + 4) = ap_L (ap_ws (ap_g c) (ap_ba ap_d1 (fun _ => 0) (fun _ => 20)) w 3))
    (n1 : ap_N bn [3, 4, 5, 6, 7]) (n2 : ap_N cn [0, 1, 2]) : ap_G 5 3 5 4 1 (ap_MD p c (b - p * 20) (-20) 20 20 20 (c * 20) (-20) 0 0) [3, 4, 5, 6, 7] [0, 1, 2] (nI 5) 3 (nI 5) 4 1 t bn cn := by
  obtain ⟨u1, u2, u3⟩ := w8
  obtain ⟨v1, v2, v3⟩ := w9
  refine ap_gM (ap_MD p c (b - p * 20) (-20) 20 20 20 (c * 20) (-20) 0 0) ?_ ?_ ?_ ?_ ?_ (ap_sD hb) s1 s2 n1 n2
  · intro r i hr hi
    match r, hr with
    | 0, _ => exact ap_lt3 (P := fun i => a8' (0 * 3 + i) = ap_I (ap_at (ap_MD p c (b - p * 20) (-20) 20 20 20 (c * 20) (-20) 0 0) 0 i)) (u1 0 (by omega)) (u1 1 (by omega)) (u1 2 (by omega)) i hi
    | 1, _ => exact ap_lt3 (P := fun i => a8' (1 * 3 + i) = ap_I (ap_at (ap_MD p c (b - p * 20) (-20) 20 20 20 (c * 20) (-20) 0 0) 1 i)) (u2 0 (by omega)) (u2 1 (by omega)) (u2 2 (by omega)) i hi
    | 2, _ => exact ap_lt3 (P := fun i => a8' (2 * 3 + i) = ap_I (ap_at (ap_MD p c (b - p * 20) (-20) 20 20 20 (c * 20) (-20) 0 0) 2 i)) (u3 0 (by omega) 0 (by omega)) (u3 0 (by omega) 1 (by omega)) (u3 0 (by omega) 2 (by omega)) i hi
    | 3, _ => exact ap_lt3 (P := fun i => a8' (3 * 3 + i) = ap_I (ap_at (ap_MD p c (b - p * 20) (-20) 20 20 20 (c * 20) (-20) 0 0) 3 i)) (u3 1 (by omega) 0 (by omega)) (u3 1 (by omega) 1 (by omega)) (u3 1 (by omega) 2 (by omega)) i hi
    | 4, _ => exact ap_lt3 (P := fun i => a8' (4 * 3 + i) = ap_I (ap_at (ap_MD p c (b - p * 20) (-20) 20 20 20 (c * 20) (-20) 0 0) 4 i)) (u3 2 (by omega) 0 (by omega)) (u3 2 (by omega) 1 (by omega)) (u3 2 (by omega) 2 (by omega)) i hi
    | n + 5, q => exact absurd q (by omega)
  · intro r hr
    match r, hr with
    | 0, _ => rfl
    | 1, _ => rfl
    | 2, _ => rfl
    | 3, _ => rfl
    | 4, _ => rfl
    | 5, _ => rfl
    | 6, _ => rfl
    | 7, _ => rfl
    | 8, _ => rfl
    | n + 9, q => exact absurd q (by omega)
  · refine ap_lt5 (P := fun r => a9' r = ap_I (ap_at (ap_MD p c (b - p * 20) (-20) 20 20 20 (c * 20) (-20) 0 0) r 4)) ?_ ?_ ?_ ?_ ?_
    · rw [v1]
      have q : b - p * 20 - 0 * 0 - 0 * 0 = b - p * 20 := by omega
      exact congrArg ap_I q
    · rw [v2]
      have q : (0 : Int) - 1 * 20 - (-1) * 0 - 0 * 0 = -20 := by omega
      exact congrArg ap_I q
    · exact v3 0 (by omega)
    · exact v3 1 (by omega)
    · exact v3 2 (by omega)
  · intro w i hw hi
    match w, hw with
    | 0, _ => exact ap_lt3 (P := fun i => -(ap_sg ap_d1 i (ap_nm (ap_g c) 0 i)) = ap_at (ap_MD p c (b - p * 20) (-20) 20 20 20 (c * 20) (-20) 0 0) (5 + 0) i) (Int.neg_neg c) rfl rfl i hi
    | 1, _ => exact ap_lt3 (P := fun i => -(ap_sg ap_d1 i (ap_nm (ap_g c) 1 i)) = ap_at (ap_MD p c (b - p * 20) (-20) 20 20 20 (c * 20) (-20) 0 0) (5 + 1) i) rfl rfl rfl i hi
    | 2, _ => exact ap_lt3 (P := fun i => -(ap_sg ap_d1 i (ap_nm (ap_g c) 2 i)) = ap_at (ap_MD p c (b - p * 20) (-20) 20 20 20 (c * 20) (-20) 0 0) (5 + 2) i) rfl rfl rfl i hi
    | 3, _ => exact ap_lt3 (P := fun i => -(ap_sg ap_d1 i (ap_nm (ap_g c) 3 i)) = ap_at (ap_MD p c (b - p * 20) (-20) 20 20 20 (c * 20) (-20) 0 0) (5 + 3) i) rfl rfl rfl i hi
    | n + 4, q => exact absurd q (by omega)
  · intro w hw
    match w, hw with
    | 0, _ => exact (show 0 + c * 20 + (-1) * 0 + 0 * 0 = c * 20 by omega)
    | 1, _ => exact (show 0 + (-1) * 20 + 0 * 0 + 0 * 0 = (-20 : Int) by omega)
    | 2, _ => exact (show 0 + 0 * 20 + (-1) * 0 + 0 * 0 = (0 : Int) by omega)
    | 3, _ => exact (show 0 + 0 * 20 + 0 * 0 + (-1) * 0 = (0 : Int) by omega)
    | n + 4, q => exact absurd q (by omega)
theorem ap_w53 {post : Int32 → St2 → Prop} {n k : Nat} {u : Int} {M : List (List Int)} {rn cn : List Nat} (g : ap_G 5 3 5 4 u M rn cn f0_rows f0_columns f0_firstWorth f0_worthCount f0_unit a10 a11 a12) (hk : k < 1000)
    (hn : ∀ r, r < 5 → 0 ≤ ap_at M r 4) (H : wpX_readOff (fun s => post 1 s) (f0_present, f0_without, f0_rows, f0_turned, f0_unit, f0_columns, f0_firstWorth, f0_worthCount, f0_worthTop, f0_worthBottom, f0_lines, f0_empty, f0_hasHigh, f0_highTop, f0_highBottom, f0_hasLow, f0_lowTop, f0_lowBottom, f0_branches, f0_leastThird, f0_greatestThird, a1, a2, a3, a4, a5, a6, a7, a8, a9, a10, a11, a12, a13, a14, a15, a16, a17, a18, a19)) : wX_solveByWorth_53 post (n + 1) (nI k) f0_present f0_without f0_rows f0_turned f0_unit f0_columns f0_firstWorth f0_worthCount f0_worthTop f0_worthBottom f0_lines f0_empty f0_hasHigh f0_highTop f0_highBottom f0_hasLow f0_lowTop f0_lowBottom f0_branches f0_leastThird f0_greatestThird a1 a2 a3 a4 a5 a6 a7 a8 a9 a10 a11 a12 a13 a14 a15 a16 a17 a18 a19 := by
  obtain ⟨⟨g1, g2, g3, g4, g5⟩, ⟨g6, g7⟩, ⟨g8, g9, g10, g11, g12, g13⟩, g14, g15, g16⟩ := g
  refine pk_le 100000 k (fun z => absurd z (by omega)) (fun _ => ?_)
  exact ap_broken0 g14 (by omega) g9 g1 hn (br_f (by decide) H)
theorem ap_sbw {post : Int32 → St2 → Prop} {N B : Int} (hp : 1 ≤ p ∧ p ≤ 7) (hc : 2 ≤ c ∧ c ≤ 5) (hb0 : 0 ≤ b ∧ b ≤ 99) (hK : ap_K p b c f0_present a1 a2 a3 a4) (eW : f0_without = -1) (e5 : ap_V a5 (fun _ => 0)) (e6 : ap_V a6 (fun _ => 20)) (e7 : ap_V a7 (ap_g c))
    (hway : (b < 20 * p ∧ N = b ∧ B = p) ∨ (20 * p ≤ b ∧ N = 20 ∧ B = 1))
    (H : ∀ (u' : Int64) (x1 x2 x3 x4 : Int32) (wt wb : Int64) (b8 b9 : Nat → Int32) (b10 : Nat → Int64) (b11 b12 : Nat → Int32) (b13 : Nat → Int64), ap_pt c N B 0 b13 wt wb → post 1 (f0_present, f0_without, x1, 1, u', x2, x3, x4, wt, wb, f0_lines, f0_empty, f0_hasHigh, f0_highTop, f0_highBottom, f0_hasLow, f0_lowTop, f0_lowBottom, f0_branches, f0_leastThird, f0_greatestThird, a1, a2, a3, a4, a5, a6, a7, b8, b9, b10, b11, b12, b13, a14, a15, a16, a17, a18, a19)) :
    wpX_solveByWorth post (f0_present, f0_without, f0_rows, f0_turned, f0_unit, f0_columns, f0_firstWorth, f0_worthCount, f0_worthTop, f0_worthBottom, f0_lines, f0_empty, f0_hasHigh, f0_highTop, f0_highBottom, f0_hasLow, f0_lowTop, f0_lowBottom, f0_branches, f0_leastThird, f0_greatestThird, a1, a2, a3, a4, a5, a6, a7, a8, a9, a10, a11, a12, a13, a14, a15, a16, a17, a18, a19) := by
  have hb : ap_bd p c (b - p * 20) (-20) 20 20 20 (c * 20) (-20) 0 0 := ap_bdI hp hc (by omega) (by omega) (by omega) (by omega) (by omega) (by omega) (by omega) (by omega) (by omega)
  have hl : ∀ i, i < 3 → -100 ≤ (fun _ : Nat => (0 : Int)) i ∧ (fun _ : Nat => (0 : Int)) i ≤ 100 := fun i _ => (show (-100 : Int) ≤ 0 ∧ (0 : Int) ≤ 100 by decide)
  have hh : ∀ i, i < 3 → -100 ≤ (fun _ : Nat => (20 : Int)) i ∧ (fun _ : Nat => (20 : Int)) i ≤ 100 := fun i _ => (show (-100 : Int) ≤ 20 ∧ (20 : Int) ≤ 100 by decide)
  refine ⟨4, ?_⟩
  refine br_f (by decide) ⟨pk_in 0 3 (by omega), ?_⟩
  rw [pk_cl (x := (0 : Int32)) 0, e7 0 (by omega)]
  refine br_f (show ¬ ap_I c ≤ 0 from by rw [← ap_I0, ap_Ile ⟨by omega, by omega⟩ ⟨by omega, by omega⟩]; omega) (nm_r (show (0 : Int32) ||| ((1 : Int32) <<< ((0 : Int32) &&& 31)) = 1 by decide) (nm_r (nI_1 0) ?_))
  refine br_f (by decide) ⟨pk_in 1 3 (by omega), ?_⟩
  rw [pk_cl (x := nI (0 + 1)) 1, e7 1 (by omega)]
  refine br_t (show ap_I (-1) ≤ 0 by decide) (nm_r (show (1 : Int32) ||| 0 = 1 by decide) (nm_r (nI_1 1) ?_))
  refine br_f (by decide) ⟨pk_in 2 3 (by omega), ?_⟩
  rw [pk_cl (x := nI (1 + 1)) 2, e7 2 (by omega)]
  refine br_t (show ap_I 0 ≤ 0 by decide) (nm_r (show (1 : Int32) ||| 0 = 1 by decide) (nm_r (nI_1 2) ?_))
  refine br_t (by decide) ?_
  refine ap_writeRows hK eW e5 e6 ap_Dd1 (fun b8 b9 w8 w9 => ?_)
  refine ap_setUp rfl e5 e6 e7 ap_Dd1 (fun i hi => ⟨?_, ?_⟩) (fun t bn cn s1 s2 n1 n2 => ?_)
  · exact ap_lt3 (P := fun i => -100 ≤ ap_g c i ∧ ap_g c i ≤ 100) (show -100 ≤ c ∧ c ≤ 100 by omega) (show (-100 : Int) ≤ -1 ∧ (-1 : Int) ≤ 100 by omega) (show (-100 : Int) ≤ 0 ∧ (0 : Int) ≤ 100 by omega) i hi
  · exact ap_lt3 (P := fun i => -100 ≤ ap_ba ap_d1 (fun _ => 0) (fun _ => 20) i ∧ ap_ba ap_d1 (fun _ => 0) (fun _ => 20) i ≤ 100) (by decide) (by decide) (by decide) i hi
  have g := ap_gD hb w8 w9 s1 s2 n1 n2
  rcases hway with ⟨k, eN, eB⟩ | ⟨k, eN, eB⟩
  · -- b below 20 p: the first row is broken
    refine ⟨2 + 1, ?_⟩
    refine pk_le 100000 0 (fun z => absurd z (by omega)) (fun _ => ?_)
    obtain ⟨⟨g1, g2, g3, g4, g5⟩, ⟨g6, g7⟩, ⟨g8, g9, g10, g11, g12, g13⟩, g14, g15, g16⟩ := id g
    refine ap_broken1 0 g14 (by omega) g9 g10 g1 g15 g12 (by omega) (show b - p * 20 < 0 by omega) ?_ (br_t (by decide) ?_)
    · intro r hr hne hneg
      match r, hr, hne, hneg with
      | 0, _, hne, _ => exact absurd rfl hne
      | 1, _, _, _ => decide
      | 2, _, _, hneg => exact absurd hneg (show ¬ (20 : Int) < 0 by decide)
      | 3, _, _, hneg => exact absurd hneg (show ¬ (20 : Int) < 0 by decide)
      | 4, _, _, hneg => exact absurd hneg (show ¬ (20 : Int) < 0 by decide)
      | n + 5, q, _, _ => exact absurd q (by omega)
    refine ap_w79a 0 g (by omega) (show -p < 0 by omega) (show (0 : Int) ≤ 0 by decide) (show (0 : Int) ≤ 0 by decide) ?_
    refine pk_le 3 3 (fun _ => br_t (by decide) ?_) (fun z => absurd z (by omega))
    refine ap_exG (-1) (ap_MD0 p c (b - p * 20) (-20) 20 20 20 (c * 20) (-20) 0 0) 0 0 p [0, 4, 5, 6, 7] [3, 1, 2] g (show (-1) * (-p) = p by omega) rfl rfl (by omega) (by omega) (by decide) (Or.inr ⟨rfl, show -p < 0 by omega⟩) (ap_cD0 hb) (fun u1 t1 b1 c1 g' => ?_)
    refine nm_r (nI_1 0) ?_
    by_cases z : b = 0
    · -- done
      refine ap_w53 (n := 1) g' (by omega) ?_ ?_
      · exact ap_lt5 (P := fun r => 0 ≤ ap_at (ap_MD0 p c (b - p * 20) (-20) 20 20 20 (c * 20) (-20) 0 0) r 4) (show 0 ≤ -(b - p * 20) by omega) (show 0 ≤ -(b - p * 20) + (-20) * p by omega) (show 0 ≤ b - p * 20 + 20 * p by omega) (show 0 ≤ 20 * p by omega) (show 0 ≤ 20 * p by omega)
      · refine ap_readOff g' (by omega) e5 e6 ap_Dd1 hl hh (fun a13' h13 => H _ _ _ _ _ _ _ _ _ _ _ _ _ ⟨?_, ?_, ?_, ?_, ?_⟩)
        · have q : (b - p * 20) * c + c * 20 * p = (c - 1) * N := by rw [eN, z]; grind
          exact congrArg ap_L q
        · rw [eB]
        · have q : 20 * p - -(b - p * 20) = N := by omega
          exact (h13 0 (by omega)).trans (congrArg ap_L q)
        · have q : 0 * p + 0 = N := by omega
          exact (h13 1 (by omega)).trans (congrArg ap_L q)
        · have q : 0 * p + 0 = 0 * B := by omega
          exact (h13 2 (by omega)).trans (congrArg ap_L q)
    · refine pk_le 100000 1 (fun z => absurd z (by omega)) (fun _ => ?_)
      obtain ⟨⟨g1, g2, g3, g4, g5⟩, ⟨g6, g7⟩, ⟨g8, g9, g10, g11, g12, g13⟩, g14, g15, g16⟩ := id g'
      refine ap_broken1 1 g14 (by omega) g9 g10 g1 g15 g12 (by omega) (show -(b - p * 20) + (-20) * p < 0 by omega) ?_ (br_t (by decide) ?_)
      · intro r hr hne hneg
        match r, hr, hne, hneg with
        | 0, _, _, hneg => exact absurd hneg (show ¬ -(b - p * 20) < 0 by omega)
        | 1, _, hne, _ => exact absurd rfl hne
        | 2, _, _, hneg => exact absurd hneg (show ¬ b - p * 20 + 20 * p < 0 by omega)
        | 3, _, _, hneg => exact absurd hneg (show ¬ 20 * p < 0 by omega)
        | 4, _, _, hneg => exact absurd hneg (show ¬ 20 * p < 0 by omega)
        | n + 5, q, _, _ => exact absurd q (by omega)
      have cp : c * p = (c - 1) * p + p := by grind
      have cq : 0 < (c - 1) * p := Int.mul_pos (by omega) (by omega)
      refine ap_w79b 1 g' (by omega) (show (-1 : Int) < 0 by decide) (show -p < 0 by omega) (show (0 : Int) ≤ 0 by decide) (show p * -(-1) < c * -(-p) from by rw [show c * -(-p) = c * p by grind]; omega) ?_
      refine pk_le 3 3 (fun _ => br_t (by decide) ?_) (fun z => absurd z (by omega))
      refine ap_exG (-1) (ap_MD1 p c (b - p * 20) (-20) 20 20 20 (c * 20) (-20) 0 0) 1 1 p [0, 1, 5, 6, 7] [3, 4, 2] g' (show (-1) * (-p) = p by omega) rfl rfl (by omega) (by omega) (by decide) (Or.inr ⟨rfl, show -p < 0 by omega⟩) (ap_cD1 hb) (fun u2 t2 b2 c2 g2 => ?_)
      refine nm_r (nI_1 1) ?_
      refine ap_w53 (n := 0) g2 (by omega) ?_ ?_
      · exact ap_lt5 (P := fun r => 0 ≤ ap_at (ap_MD1 p c (b - p * 20) (-20) 20 20 20 (c * 20) (-20) 0 0) r 4) (show 0 ≤ -(b - p * 20) by omega) (show 0 ≤ b - p * 20 - (-20) * p by omega) (show 0 ≤ b - p * 20 + 20 * p by omega) (show 0 ≤ -(b - p * 20) + (-20) * p + 20 * p by omega) (show 0 ≤ 20 * p by omega)
      · refine ap_readOff g2 (by omega) e5 e6 ap_Dd1 hl hh (fun a13' h13 => H _ _ _ _ _ _ _ _ _ _ _ _ _ ⟨?_, ?_, ?_, ?_, ?_⟩)
        · have q : -(b - p * 20) + (b - p * 20) * c + (-20) * p + c * 20 * p = (c - 1) * N := by rw [eN]; grind
          exact congrArg ap_L q
        · rw [eB]
        · have q : 20 * p - -(b - p * 20) = N := by omega
          exact (h13 0 (by omega)).trans (congrArg ap_L q)
        · have q : 0 * p + (b - p * 20 - (-20) * p) = N := by omega
          exact (h13 1 (by omega)).trans (congrArg ap_L q)
        · have q : 0 * p + 0 = 0 * B := by omega
          exact (h13 2 (by omega)).trans (congrArg ap_L q)
  · refine ⟨1 + 1, ?_⟩
    refine pk_le 100000 0 (fun z => absurd z (by omega)) (fun _ => ?_)
    obtain ⟨⟨g1, g2, g3, g4, g5⟩, ⟨g6, g7⟩, ⟨g8, g9, g10, g11, g12, g13⟩, g14, g15, g16⟩ := id g
    refine ap_broken1 1 g14 (by omega) g9 g10 g1 g15 g12 (by omega) (show (-20 : Int) < 0 by omega) ?_ (br_t (by decide) ?_)
    · intro r hr hne hneg
      match r, hr, hne, hneg with
      | 0, _, _, hneg => exact absurd hneg (show ¬ b - p * 20 < 0 by omega)
      | 1, _, hne, _ => exact absurd rfl hne
      | 2, _, _, hneg => exact absurd hneg (show ¬ (20 : Int) < 0 by decide)
      | 3, _, _, hneg => exact absurd hneg (show ¬ (20 : Int) < 0 by decide)
      | 4, _, _, hneg => exact absurd hneg (show ¬ (20 : Int) < 0 by decide)
      | n + 5, q, _, _ => exact absurd q (by omega)
    refine ap_w79b 1 g (by omega) (show (-1 : Int) < 0 by decide) (show (-1 : Int) < 0 by decide) (show (0 : Int) ≤ 0 by decide) (show (1 : Int) * -(-1) < c * -(-1) by omega) ?_
    refine pk_le 3 3 (fun _ => br_t (by decide) ?_) (fun z => absurd z (by omega))
    refine ap_exG (-1) (ap_MD2 p c (b - p * 20) (-20) 20 20 20 (c * 20) (-20) 0 0) 1 1 1 [3, 1, 5, 6, 7] [0, 4, 2] g rfl rfl rfl (by omega) (by omega) (by decide) (Or.inr ⟨rfl, show (-1 : Int) < 0 by decide⟩) (ap_cD2 hb) (fun u2 t2 b2 c2 g2 => ?_)
    refine nm_r (nI_1 0) ?_
    refine ap_w53 (n := 0) g2 (by omega) ?_ ?_
    · exact ap_lt5 (P := fun r => 0 ≤ ap_at (ap_MD2 p c (b - p * 20) (-20) 20 20 20 (c * 20) (-20) 0 0) r 4) (show 0 ≤ b - p * 20 by omega) (show (0 : Int) ≤ -(-20) by decide) (show (0 : Int) ≤ 20 by decide) (show (0 : Int) ≤ -20 + 20 by decide) (show (0 : Int) ≤ 20 by decide)
    · refine ap_readOff g2 (by omega) e5 e6 ap_Dd1 hl hh (fun a13' h13 => H _ _ _ _ _ _ _ _ _ _ _ _ _ ⟨?_, ?_, ?_, ?_, ?_⟩)
      · have q : -20 + c * 20 = (c - 1) * N := by rw [eN]; omega
        exact congrArg ap_L q
      · rw [eB]
      · have q : 20 * 1 - 0 = N := by omega
        exact (h13 0 (by omega)).trans (congrArg ap_L q)
      · have q : 0 * 1 + -(-20) = N := by omega
        exact (h13 1 (by omega)).trans (congrArg ap_L q)
      · have q : 0 * 1 + 0 = 0 * B := by omega
        exact (h13 2 (by omega)).trans (congrArg ap_L q)
end
end
section
section
variable {f0_present : Int32}
variable {f0_without : Int32}
variable {f0_rows : Int32}
variable {f0_turned : Int32}
variable {f0_unit : Int64}
variable {f0_columns : Int32}
variable {f0_firstWorth : Int32}
variable {f0_worthCount : Int32}
variable {f0_worthTop : Int64}
variable {f0_worthBottom : Int64}
variable {f0_lines : Int32}
variable {f0_empty : Int32}
variable {f0_hasHigh : Int32}
variable {f0_highTop : Int64}
variable {f0_highBottom : Int64}
variable {f0_hasLow : Int32}
variable {f0_lowTop : Int64}
variable {f0_lowBottom : Int64}
variable {f0_branches : Int32}
variable {f0_leastThird : Int32}
variable {f0_greatestThird : Int32}
variable {a1 : Nat → Int32}
variable {a2 : Nat → Int32}
variable {a3 : Nat → Int32}
variable {a4 : Nat → Int32}
variable {a5 : Nat → Int32}
variable {a6 : Nat → Int32}
variable {a7 : Nat → Int32}
variable {a8 : Nat → Int32}
variable {a9 : Nat → Int32}
variable {a10 : Nat → Int64}
variable {a11 : Nat → Int32}
variable {a12 : Nat → Int32}
variable {a13 : Nat → Int64}
variable {a14 : Nat → Int64}
variable {a15 : Nat → Int64}
variable {a16 : Nat → Int64}
variable {a17 : Nat → Int64}
variable {a18 : Nat → Int32}
variable {a19 : Nat → Int32}
/-- a line: worth, two amounts, bound -/
abbrev ap_ln : Type := Int × Int × Int × Int
def ap_LN (n : Nat) (q : Nat → ap_ln) (b14 b15 b16 b17 : Nat → Int64) : Prop := ∀ k, k < n → b14 k = ap_L (q k).1 ∧ b15 k = ap_L (q k).2.1 ∧ b16 k = ap_L (q k).2.2.1 ∧ b17 k = ap_L (q k).2.2.2
/-- g times the line is .. -/
def ap_sc (g : Int) (x : ap_ln) (w f s B : Int) : Prop := g * x.1 = w ∧ g * x.2.1 = f ∧ g * x.2.2.1 = s ∧ g * x.2.2.2 = B
def ap_sl (E : Int) (x : ap_ln) : Prop := (-E ≤ x.1 ∧ x.1 ≤ E) ∧ (-E ≤ x.2.1 ∧ x.2.1 ≤ E) ∧ (-E ≤ x.2.2.1 ∧ x.2.2.1 ≤ E) ∧ (-E ≤ x.2.2.2 ∧ x.2.2.2 ≤ E)
theorem ap_tdle {g x z E : Int} (hg : 0 < g) (h : g * x = z) (h1 : -E ≤ z) (h2 : z ≤ E) : -E ≤ x ∧ x ≤ E := by
  rcases Int.lt_or_le x 0 with y | y
  · have : z ≤ x := by
      rw [← h]
      have := Int.mul_le_mul_of_nonneg_right (show 1 ≤ g by omega) (show 0 ≤ -x by omega)
      rw [Int.one_mul, Int.mul_neg] at this
      omega
    omega
  · have : x ≤ z := by
      rw [← h]
      have := Int.mul_le_mul_of_nonneg_right (show 1 ≤ g by omega) y
      rw [Int.one_mul] at this
      exact this
    omega
theorem ap_scsl {g E w f s B : Int} {x : ap_ln} (hg : 0 < g) (h : ap_sc g x w f s B) (h1 : -E ≤ w ∧ w ≤ E) (h2 : -E ≤ f ∧ f ≤ E) (h3 : -E ≤ s ∧ s ≤ E) (h4 : -E ≤ B ∧ B ≤ E) : ap_sl E x :=
  ⟨ap_tdle hg h.1 h1.1 h1.2, ap_tdle hg h.2.1 h2.1 h2.2, ap_tdle hg h.2.2.1 h3.1 h3.2, ap_tdle hg h.2.2.2 h4.1 h4.2⟩
/-- one line more, or found among those that are there -/
def ap_add (n m : Nat) (q q' : Nat → ap_ln) (x : ap_ln) : Prop := n ≤ m ∧ m ≤ n + 1 ∧ (∀ k, k < n → q' k = q k) ∧ (∀ k, n ≤ k → k < m → q' k = x) ∧ (∃ k, k < m ∧ q' k = x)
theorem ap_dvI {g : Nat} {z : Int} (hg : 0 < g) (h : g ∣ z.natAbs) : (g : Int) * (z.tdiv g) = z := by
  have : (g : Int) ∣ z := Int.ofNat_dvd_left.mpr h
  exact Int.mul_tdiv_cancel' this
theorem ap_Ldg {g : Nat} {z : Int} (h1 : 0 < g) (h2 : g ≤ 1000000) (hz : ap_s z) : ap_L z / lN g = ap_L (z.tdiv g) := by
  rw [ap_lN]
  exact ap_Ldiv (ap_sb hz) ⟨by omega, by omega⟩
theorem ap_addLine {post : St2 → Prop} {n : Nat} {q : Nat → ap_ln} {w f s B : Int} (hL : ap_LN n q a14 a15 a16 a17) (eL : f0_lines = nI n) (hn : n < 512) (hq : ∀ k, k < n → ap_sl 1000000 (q k)) (hw : ap_s w) (hf : ap_s f) (hs : ap_s s) (hB : ap_s B)
    (H : ∀ (m : Nat) (q' : Nat → ap_ln) (x : ap_ln) (g : Int) (b14 b15 b16 b17 : Nat → Int64), 0 < g → ap_sc g x w f s B → ap_add n m q q' x → ap_LN m q' b14 b15 b16 b17 → post (f0_present, f0_without, f0_rows, f0_turned, f0_unit, f0_columns, f0_firstWorth, f0_worthCount, f0_worthTop, f0_worthBottom, (nI m), f0_empty, f0_hasHigh, f0_highTop, f0_highBottom, f0_hasLow, f0_lowTop, f0_lowBottom, f0_branches, f0_leastThird, f0_greatestThird, a1, a2, a3, a4, a5, a6, a7, a8, a9, a10, a11, a12, a13, b14, b15, b16, b17, a18, a19)) :
    wpX_addLine post (f0_present, f0_without, f0_rows, f0_turned, f0_unit, f0_columns, f0_firstWorth, f0_worthCount, f0_worthTop, f0_worthBottom, f0_lines, f0_empty, f0_hasHigh, f0_highTop, f0_highBottom, f0_hasLow, f0_lowTop, f0_lowBottom, f0_branches, f0_leastThird, f0_greatestThird, a1, a2, a3, a4, a5, a6, a7, a8, a9, a10, a11, a12, a13, a14, a15, a16, a17, a18, a19) (ap_L w) (ap_L f) (ap_L s) (ap_L B) := by
  subst eL
  have gl : ∀ x y : Nat, x ≤ 1000000 → y ≤ 1000000 → ap_gc x y ≤ 1000000 := fun x y h1 h2 => ap_gc_le h1 h2 (by omega)
  have na : ∀ z : Int, ap_s z → z.natAbs ≤ 1000000 := fun z h => by
    obtain ⟨q1, q2⟩ := h
    omega
  generalize e1 : ap_gc w.natAbs f.natAbs = d1
  generalize e2 : ap_gc d1 s.natAbs = d2
  generalize e3 : ap_gc d2 B.natAbs = d3
  have l1 : d1 ≤ 1000000 := by rw [← e1]; exact gl _ _ (na w hw) (na f hf)
  have l2 : d2 ≤ 1000000 := by rw [← e2]; exact gl _ _ l1 (na s hs)
  have l3 : d3 ≤ 1000000 := by rw [← e3]; exact gl _ _ l2 (na B hB)
  have p3 : 0 < d3 := by rw [← e3]; exact ap_gc_pos _ _
  have v32 : d3 ∣ d2 := by rw [← e3]; exact ap_gc_dvl _ _
  have v3B : d3 ∣ B.natAbs := by rw [← e3]; exact ap_gc_dvr _ _
  have v21 : d2 ∣ d1 := by rw [← e2]; exact ap_gc_dvl _ _
  have v2s : d2 ∣ s.natAbs := by rw [← e2]; exact ap_gc_dvr _ _
  have v1w : d1 ∣ w.natAbs := by rw [← e1]; exact ap_gc_dvl _ _
  have v1f : d1 ∣ f.natAbs := by rw [← e1]; exact ap_gc_dvr _ _
  unfold wpX_addLine
  refine ap_divisor (ap_sb hw) (ap_sb hf) ?_
  rw [e1, ap_lN d1]
  refine ap_divisor ⟨by omega, by omega⟩ (ap_sb hs) ?_
  rw [Int.natAbs_natCast, e2, ap_lN d2]
  refine ap_divisor ⟨by omega, by omega⟩ (ap_sb hB) ?_
  rw [Int.natAbs_natCast, e3]
  have ne : ¬ lN d3 = 0 := fun z => by
    have := (pk_lEQ (b := 0) (by omega) (by omega)).mp z
    omega
  refine br_f ne ⟨ne, nm_r (ap_Ldg p3 l3 hw) ⟨ne, nm_r (ap_Ldg p3 l3 hf) ⟨ne, nm_r (ap_Ldg p3 l3 hs) ⟨ne, nm_r (ap_Ldg p3 l3 hB) ?_⟩⟩⟩⟩
  have sc : ap_sc d3 (w.tdiv d3, f.tdiv d3, s.tdiv d3, B.tdiv d3) w f s B := ⟨ap_dvI p3 (Nat.dvd_trans v32 (Nat.dvd_trans v21 v1w)), ap_dvI p3 (Nat.dvd_trans v32 (Nat.dvd_trans v21 v1f)), ap_dvI p3 (Nat.dvd_trans v32 v2s), ap_dvI p3 v3B⟩
  have sl : ap_sl 1000000 (w.tdiv d3, f.tdiv d3, s.tdiv d3, B.tdiv d3) := ap_scsl (by omega) sc hw hf hs hB
  have HH := fun m q' b14 b15 b16 b17 => H m q' (w.tdiv d3, f.tdiv d3, s.tdiv d3, B.tdiv d3) d3 b14 b15 b16 b17 (by omega) sc
  clear H sc
  obtain ⟨t1, t2, t3, t4⟩ := sl
  dsimp only at t1 t2 t3 t4
  generalize w.tdiv d3 = x1 at *
  generalize f.tdiv d3 = x2 at *
  generalize s.tdiv d3 = x3 at *
  generalize B.tdiv d3 = x4 at *
  refine pk_loop (σ := Unit) (fun k i _ => wX_addLine_62 post (ap_L x1) (ap_L x2) (ap_L x3) (ap_L x4) f0_present f0_without f0_rows f0_turned f0_unit f0_columns f0_firstWorth f0_worthCount f0_worthTop f0_worthBottom (nI n) f0_empty f0_hasHigh f0_highTop f0_highBottom f0_hasLow f0_lowTop f0_lowBottom f0_branches f0_leastThird f0_greatestThird a1 a2 a3 a4 a5 a6 a7 a8 a9 a10 a11 a12 a13 a14 a15 a16 a17 a18 a19 k (nI i)) (fun _ _ => True) n 0 () (by omega) trivial ?_ ?_
  · intro k _ _
    refine pk_le n n (fun _ => ⟨pk_in n 512 hn, ?_⟩) (fun z => absurd z (by omega))
    rw [pk_cl (x := nI n) n]
    refine nm_e ⟨pk_in n 512 hn, nm_e ⟨pk_in n 512 hn, nm_e ⟨pk_in n 512 hn, nm_e (nm_r (nI_1 n) ?_)⟩⟩⟩
    refine HH (n + 1) (fun k => if k = n then (x1, x2, x3, x4) else q k) _ _ _ _ ⟨by omega, by omega, fun k hk => if_neg (by omega), fun k h1 h2 => if_pos (by omega), ⟨n, by omega, if_pos rfl⟩⟩ ?_
    intro k hk
    dsimp only
    by_cases z : k = n
    · subst z
      rw [pk_uLs, pk_uLs, pk_uLs, pk_uLs, if_pos rfl]
      exact ⟨rfl, rfl, rfl, rfl⟩
    · rw [pk_uLn z, pk_uLn z, pk_uLn z, pk_uLn z, if_neg z]
      exact hL k (by omega)
  · intro k i _ hi _ hv
    obtain ⟨r1, r2, r3, r4⟩ := hL i hi
    obtain ⟨u1, u2, u3, u4⟩ := hq i hi
    have nx : ∀ x, x = nI i + 1 → wX_addLine_62 post (ap_L x1) (ap_L x2) (ap_L x3) (ap_L x4) f0_present f0_without f0_rows f0_turned f0_unit f0_columns f0_firstWorth f0_worthCount f0_worthTop f0_worthBottom (nI n) f0_empty f0_hasHigh f0_highTop f0_highBottom f0_hasLow f0_lowTop f0_lowBottom f0_branches f0_leastThird f0_greatestThird a1 a2 a3 a4 a5 a6 a7 a8 a9 a10 a11 a12 a13 a14 a15 a16 a17 a18 a19 k x := nm_r (nI_1 i) (hv () trivial)
    refine pk_le n i (fun z => absurd z (by omega)) (fun _ => ⟨pk_in i 512 (by omega), ?_⟩)
    rw [pk_cl (x := nI i) i, r1, r2, r3, r4]
    refine ek_if (ap_Leq ⟨by omega, by omega⟩ ⟨by omega, by omega⟩) (fun z1 => ⟨pk_in i 512 (by omega), ?_⟩) (fun _ => nx)
    refine ek_if (ap_Leq ⟨by omega, by omega⟩ ⟨by omega, by omega⟩) (fun z2 => ⟨pk_in i 512 (by omega), ?_⟩) (fun _ => nx)
    refine ek_if (ap_Leq ⟨by omega, by omega⟩ ⟨by omega, by omega⟩) (fun z3 => ⟨pk_in i 512 (by omega), ?_⟩) (fun _ => nx)
    refine ek_if (ap_Leq ⟨by omega, by omega⟩ ⟨by omega, by omega⟩) (fun z4 => ?_) (fun _ => nx)
    refine HH n q _ _ _ _ ⟨by omega, by omega, fun _ _ => rfl, fun k h1 h2 => absurd h1 (by omega), ⟨i, hi, ?_⟩⟩ hL
    show ((q i).1, (q i).2.1, (q i).2.2.1, (q i).2.2.2) = _
    rw [z1, z2, z3, z4]
theorem ap_addIneq {post : St2 → Prop} {n r : Nat} {q : Nat → ap_ln} {c m0 m1 m2 R : Int} {xs : Int32} (sg Bd : Int) (hxs : xs = ap_I sg) (hBd : Bd = if sg = 1 then R else 0) (hL : ap_LN n q a14 a15 a16 a17) (eL : f0_lines = nI n) (hn : n < 512) (hq : ∀ k, k < n → ap_sl 1000000 (q k)) (hr : r < 5) (hc : 2 ≤ c ∧ c ≤ 5) (hsg : sg = 1 ∨ sg = -1)
    (e7 : ap_V a7 (ap_g c)) (e80 : a8 (r * 3 + 0) = ap_I m0) (e81 : a8 (r * 3 + 1) = ap_I m1) (e82 : a8 (r * 3 + 2) = ap_I m2) (e9 : a9 r = ap_I R) (h0 : -10 ≤ m0 ∧ m0 ≤ 10) (h1 : -10 ≤ m1 ∧ m1 ≤ 10) (h2 : -10 ≤ m2 ∧ m2 ≤ 10) (h3 : -1000 ≤ R ∧ R ≤ 1000)
    (H : ∀ (m : Nat) (q' : Nat → ap_ln) (x : ap_ln) (g : Int) (b14 b15 b16 b17 : Nat → Int64), 0 < g → ap_sc g x (sg * m0) (c * (sg * m1) + sg * m0) (c * (sg * m2)) (c * Bd) → ap_add n m q q' x → ap_LN m q' b14 b15 b16 b17 → post (f0_present, f0_without, f0_rows, f0_turned, f0_unit, f0_columns, f0_firstWorth, f0_worthCount, f0_worthTop, f0_worthBottom, (nI m), f0_empty, f0_hasHigh, f0_highTop, f0_highBottom, f0_hasLow, f0_lowTop, f0_lowBottom, f0_branches, f0_leastThird, f0_greatestThird, a1, a2, a3, a4, a5, a6, a7, a8, a9, a10, a11, a12, a13, b14, b15, b16, b17, a18, a19)) :
    wpX_addInequality post (f0_present, f0_without, f0_rows, f0_turned, f0_unit, f0_columns, f0_firstWorth, f0_worthCount, f0_worthTop, f0_worthBottom, f0_lines, f0_empty, f0_hasHigh, f0_highTop, f0_highBottom, f0_hasLow, f0_lowTop, f0_lowBottom, f0_branches, f0_leastThird, f0_greatestThird, a1, a2, a3, a4, a5, a6, a7, a8, a9, a10, a11, a12, a13, a14, a15, a16, a17, a18, a19) 0 (nI r) xs := by
  subst hxs
  have i0 : nI r * 3 + 0 = nI (r * 3 + 0) := ap_ix 3 r 0
  have i1 : nI r * 3 + 1 = nI (r * 3 + 1) := ap_ix 3 r 1
  have i2 : nI r * 3 + 2 = nI (r * 3 + 2) := ap_ix 3 r 2
  have sm : ∀ z : Int, (-10 ≤ z ∧ z ≤ 10) → (-10 ≤ sg * z ∧ sg * z ≤ 10) := by
    intro z hz
    rcases hsg with e | e <;> rw [e] <;> omega
  have s0 := sm m0 h0
  have s1 := sm m1 h1
  have s2 := sm m2 h2
  have cm : ∀ z : Int, (-1000 ≤ z ∧ z ≤ 1000) → (-7000 ≤ c * z ∧ c * z ≤ 7000) := by
    intro z hz
    have := ap_pr hz (show 1 ≤ c ∧ c ≤ 7 by omega)
    rw [Int.mul_comm]
    exact this
  have c1 := cm (sg * m1) (by omega)
  have c2 := cm (sg * m2) (by omega)
  have fin : ∀ z0 : Int, z0 = (if sg = 1 then R else 0) → wX_addInequality_84 post 1 2 (ap_I c) (ap_L (sg * m0)) (ap_L (sg * m1)) (ap_L (sg * m2)) (ap_L z0) f0_present f0_without f0_rows f0_turned f0_unit f0_columns f0_firstWorth f0_worthCount f0_worthTop f0_worthBottom f0_lines f0_empty f0_hasHigh f0_highTop f0_highBottom f0_hasLow f0_lowTop f0_lowBottom f0_branches f0_leastThird f0_greatestThird a1 a2 a3 a4 a5 a6 a7 a8 a9 a10 a11 a12 a13 a14 a15 a16 a17 a18 a19 := by
    intro z0 ez
    have hz0 : -1000 ≤ z0 ∧ z0 ≤ 1000 := by
      rw [ez]
      split <;> omega
    have c3 := cm z0 hz0
    have hc0 : ¬ ap_I c = 0 := by
      rw [← ap_I0, ap_Ieq ⟨by omega, by omega⟩ ⟨by omega, by omega⟩]
      omega
    have hcp : 0 ≤ ap_I c := by
      rw [← ap_I0, ap_Ile ⟨by omega, by omega⟩ ⟨by omega, by omega⟩]
      omega
    refine br_f hc0 (br_t hcp (br_t hcp ⟨pk_in 1 3 (by omega), pk_in 2 3 (by omega), ?_⟩))
    rw [pk_cl (x := (1 : Int32)) 1, pk_cl (x := (2 : Int32)) 2, e7 1 (by omega), e7 2 (by omega)]
    rw [ap_I64 (by omega) (by omega), show (ap_I (ap_g c 1)).toInt64 = ap_L (-1) from rfl, show (ap_I (ap_g c 2)).toInt64 = ap_L 0 from rfl, ← ap_L1, ap_Lmul, ap_Lmul, ap_Lmul, ap_Lmul, ap_Lmul, ap_Lmul, ap_Lsub, ap_Lsub]
    have y1 : 1 * (sg * m0) = sg * m0 := Int.one_mul _
    have y2 : c * (sg * m1) - 1 * (sg * m0) * -1 = c * (sg * m1) + sg * m0 := by omega
    have y3 : c * (sg * m2) - 1 * (sg * m0) * 0 = c * (sg * m2) := by omega
    rw [y2, y3, y1]
    refine ap_addLine hL eL hn hq ⟨by omega, by omega⟩ ⟨by omega, by omega⟩ ⟨by omega, by omega⟩ ⟨by omega, by omega⟩ (fun m q' x g b14 b15 b16 b17 k1 k2 k3 k4 => ?_)
    rw [ez, ← hBd] at k2
    exact H m q' x g b14 b15 b16 b17 k1 k2 k3 k4
  refine ⟨by decide, nm_r (show ((0 : Int32) + 1) - ((0 : Int32) + 1) / 3 * 3 = 1 by decide) ⟨by decide, nm_r (show ((0 : Int32) + 2) - ((0 : Int32) + 2) / 3 * 3 = 2 by decide) ⟨pk_in 0 3 (by omega), ?_⟩⟩⟩
  rw [pk_cl (x := (0 : Int32)) 0, e7 0 (by omega)]
  refine nm_e ⟨pk_in (r * 3 + 0) 48 (by omega) i0, ?_⟩
  rw [pk_cl (r * 3 + 0) i0, e80, ap_Imul, ap_I64 (by omega) (by omega)]
  refine nm_e ⟨pk_in (r * 3 + 1) 48 (by omega) i1, ?_⟩
  rw [pk_cl (r * 3 + 1) i1, e81, ap_Imul, ap_I64 (by omega) (by omega)]
  refine nm_e ⟨pk_in (r * 3 + 2) 48 (by omega) i2, ?_⟩
  rw [pk_cl (r * 3 + 2) i2, e82, ap_Imul, ap_I64 (by omega) (by omega)]
  refine nm_e ?_
  rcases hsg with e | e
  · refine br_f (by rw [e]; decide) ⟨pk_in r 16 (by omega), ?_⟩
    rw [pk_cl (x := nI r) r, e9, ap_I64 (by omega) (by omega)]
    exact fin R (by rw [if_pos e])
  · refine br_t (by rw [e]; decide) ?_
    exact fin 0 (by rw [if_neg (by omega)])
end
end
section
section
variable {f0_present : Int32}
variable {f0_without : Int32}
variable {f0_rows : Int32}
variable {f0_turned : Int32}
variable {f0_unit : Int64}
variable {f0_columns : Int32}
variable {f0_firstWorth : Int32}
variable {f0_worthCount : Int32}
variable {f0_worthTop : Int64}
variable {f0_worthBottom : Int64}
variable {f0_lines : Int32}
variable {f0_empty : Int32}
variable {f0_hasHigh : Int32}
variable {f0_highTop : Int64}
variable {f0_highBottom : Int64}
variable {f0_hasLow : Int32}
variable {f0_lowTop : Int64}
variable {f0_lowBottom : Int64}
variable {f0_branches : Int32}
variable {f0_leastThird : Int32}
variable {f0_greatestThird : Int32}
variable {a1 : Nat → Int32}
variable {a2 : Nat → Int32}
variable {a3 : Nat → Int32}
variable {a4 : Nat → Int32}
variable {a5 : Nat → Int32}
variable {a6 : Nat → Int32}
variable {a7 : Nat → Int32}
variable {a8 : Nat → Int32}
variable {a9 : Nat → Int32}
variable {a10 : Nat → Int64}
variable {a11 : Nat → Int32}
variable {a12 : Nat → Int32}
variable {a13 : Nat → Int64}
variable {a14 : Nat → Int64}
variable {a15 : Nat → Int64}
variable {a16 : Nat → Int64}
variable {a17 : Nat → Int64}
variable {a18 : Nat → Int32}
variable {a19 : Nat → Int32}
variable {p W bt : Int}
/-- a line holds at the best point -/
def ap_ok (p W bt : Int) (x : ap_ln) : Prop := x.1 * W + x.2.1 * bt ≤ x.2.2.2 * p
def ap_V1 (p W bt : Int) (x : ap_ln) : Prop := ap_sl 500 x ∧ (x.2.1 ≠ 0 → x.2.2.1 = 0) ∧ ap_ok p W bt x
def ap_V2 (p W bt : Int) (x : ap_ln) : Prop := ap_sl 500000 x ∧ (x.2.2.1 ≠ 0 → ap_sl 500 x) ∧ ap_ok p W bt x
def ap_TF (p W : Int) (x : ap_ln) : Prop := x.2.1 = 0 ∧ x.2.2.1 = 0 ∧ 0 < x.1 ∧ x.2.2.2 * p = x.1 * W
def ap_TA (p W bt : Int) (x : ap_ln) : Prop := x.1 = x.2.1 ∧ 0 < x.1 ∧ x.2.2.2 * p = x.1 * (W + bt)
def ap_TB (W bt : Int) (x : ap_ln) : Prop := 0 < x.1 ∧ x.2.1 < 0 ∧ x.2.2.2 = 0 ∧ x.2.1 * bt = -(x.1 * W)
theorem ap_cancel {g x y : Int} (hg : 0 < g) (h : g * x ≤ g * y) : x ≤ y := Int.le_of_mul_le_mul_left h hg
theorem ap_cancelE {g x y : Int} (hg : 0 < g) (h : g * x = g * y) : x = y := Int.eq_of_mul_eq_mul_left (by omega) h
theorem ap_zero {g x : Int} (hg : 0 < g) (h : g * x = 0) : x = 0 := by
  rcases Int.mul_eq_zero.mp h with z | z
  · omega
  · exact z
theorem ap_sc_ok {g w f s B : Int} {x : ap_ln} (hg : 0 < g) (h : ap_sc g x w f s B) (ho : w * W + f * bt ≤ B * p) : ap_ok p W bt x := by
  obtain ⟨h1, h2, h3, h4⟩ := h
  refine ap_cancel hg ?_
  have e1 : g * (x.1 * W + x.2.1 * bt) = w * W + f * bt := by rw [← h1, ← h2]; grind
  have e2 : g * (x.2.2.2 * p) = B * p := by rw [← h4]; grind
  omega
def ap_Iv (p W bt : Int) (e : Nat) (q0 : Nat → ap_ln) (n : Nat) (q : Nat → ap_ln) : Prop := e ≤ n ∧ (∀ k, k < e → q k = q0 k) ∧ (∀ k, e ≤ k → k < n → ap_V2 p W bt (q k) ∧ (q k).2.1 = 0)
theorem ap_Iv_add {e n m : Nat} {q0 q q' : Nat → ap_ln} {x : ap_ln} (h : ap_Iv p W bt e q0 n q) (ha : ap_add n m q q' x) (hx : ap_V2 p W bt x ∧ x.2.1 = 0) : ap_Iv p W bt e q0 m q' := by
  obtain ⟨h1, h2, h3⟩ := h
  obtain ⟨k1, k2, k3, k4, k5⟩ := ha
  refine ⟨by omega, fun k hk => by rw [k3 k (by omega), h2 k hk], fun k hk hm => ?_⟩
  by_cases z : k < n
  · rw [k3 k z]
    exact h3 k hk z
  · rw [k4 k (by omega) hm]
    exact hx
theorem ap_ex_add {n m : Nat} {q q' : Nat → ap_ln} {x : ap_ln} {P : ap_ln → Prop} (h : ∃ k, k < n ∧ P (q k)) (ha : ap_add n m q q' x) : ∃ k, k < m ∧ P (q' k) := by
  obtain ⟨k, hk, hp⟩ := h
  obtain ⟨k1, k2, k3, k4, k5⟩ := ha
  exact ⟨k, by omega, by rw [k3 k hk]; exact hp⟩
theorem ap_ex_new {n m : Nat} {q q' : Nat → ap_ln} {x : ap_ln} {P : ap_ln → Prop} (h : P x) (ha : ap_add n m q q' x) : ∃ k, k < m ∧ P (q' k) := by
  obtain ⟨k1, k2, k3, k4, ⟨k, hk, e⟩⟩ := ha
  exact ⟨k, hk, by rw [e]; exact h⟩
theorem ap_sl_mono {E F : Int} {x : ap_ln} (h : ap_sl E x) (hE : E ≤ F) : ap_sl F x := by
  obtain ⟨h1, h2, h3, h4⟩ := h
  exact ⟨by omega, by omega, by omega, by omega⟩
theorem ap_Iv_sl {e n : Nat} {q0 q : Nat → ap_ln} (h : ap_Iv p W bt e q0 n q) (hV : ∀ k, k < e → ap_V1 p W bt (q0 k)) : ∀ k, k < n → ap_sl 1000000 (q k) := by
  obtain ⟨h1, h2, h3⟩ := h
  intro k hk
  by_cases z : k < e
  · rw [h2 k z]
    exact ap_sl_mono (hV k z).1 (by omega)
  · exact ap_sl_mono (h3 k (by omega) hk).1.1 (by omega)
theorem ap_mul5 {a b : Int} (ha : -500 ≤ a ∧ a ≤ 500) (hb : -500 ≤ b ∧ b ≤ 500) : -250000 ≤ a * b ∧ a * b ≤ 250000 := by
  have e : (a * b).natAbs ≤ 500 * 500 := by
    rw [Int.natAbs_mul]
    exact Nat.mul_le_mul (by omega) (by omega)
  omega
/-- two lines that meet -/
theorem ap_meet_ok {x y : ap_ln} (hx : ap_ok p W bt x) (hy : ap_ok p W bt y) (h1 : 0 < x.2.1) (h2 : y.2.1 < 0) : (x.1 * (-y.2.1) + y.1 * x.2.1) * W + 0 * bt ≤ (x.2.2.2 * (-y.2.1) + y.2.2.2 * x.2.1) * p := by
  have a1 := Int.mul_le_mul_of_nonneg_left hx (show 0 ≤ -y.2.1 by omega)
  have a2 := Int.mul_le_mul_of_nonneg_left hy (show 0 ≤ x.2.1 by omega)
  have e1 : (x.1 * (-y.2.1) + y.1 * x.2.1) * W + 0 * bt = -y.2.1 * (x.1 * W + x.2.1 * bt) + x.2.1 * (y.1 * W + y.2.1 * bt) := by grind
  have e2 : (x.2.2.2 * (-y.2.1) + y.2.2.2 * x.2.1) * p = -y.2.1 * (x.2.2.2 * p) + x.2.1 * (y.2.2.2 * p) := by grind
  rw [e1, e2]
  exact Int.add_le_add a1 a2
theorem ap_meet_TF {x y z : ap_ln} {g s : Int} (hg : 0 < g) (hs : s = 0) (hsc : ap_sc g z (x.1 * (-y.2.1) + y.1 * x.2.1) 0 s (x.2.2.2 * (-y.2.1) + y.2.2.2 * x.2.1)) (hx : ap_TA p W bt x) (hy : ap_TB W bt y) : ap_TF p W z := by
  obtain ⟨s1, s2, s3, s4⟩ := hsc
  obtain ⟨x1, x2, x3⟩ := hx
  obtain ⟨y1, y2, y3, y4⟩ := hy
  refine ⟨ap_zero hg s2, ap_zero hg (by rw [s3, hs]), ?_, ap_cancelE hg ?_⟩
  · have b1 : 0 < x.1 * (-y.2.1) := Int.mul_pos x2 (by omega)
    have b2 : 0 < y.1 * x.2.1 := Int.mul_pos y1 (by omega)
    have b3 : 0 < g * z.1 := by omega
    rcases Int.lt_or_le 0 z.1 with q | q
    · exact q
    · have := Int.mul_nonpos_of_nonneg_of_nonpos (show 0 ≤ g by omega) q
      omega
  · have e1 : g * (z.2.2.2 * p) = (g * z.2.2.2) * p := by grind
    have e2 : g * (z.1 * W) = (g * z.1) * W := by grind
    rw [e1, e2, s4, s1, y3, ← x1]
    have e3 : (x.2.2.2 * -y.2.1 + 0 * x.1) * p = (x.2.2.2 * p) * -y.2.1 := by grind
    rw [e3, x3]
    have e4 : x.1 * (W + bt) * -y.2.1 = x.1 * W * -y.2.1 - x.1 * (y.2.1 * bt) := by grind
    rw [e4, y4]
    grind
theorem ap_tf48 {post : St2 → Prop} {J7 : Int32 → ap_JS} {e a n : Nat} {q0 q : Nat → ap_ln} {D : Prop} (he : e ≤ 8) (ha : a < e) (hV : ∀ k, k < e → ap_V1 p W bt (q0 k)) (hI : ap_Iv p W bt e q0 n q) (hn : n ≤ e + 9 * a + 1) (hL : ap_LN n q a14 a15 a16 a17) (eL : f0_lines = nI n)
    (hD : D → ∃ k, k < n ∧ ap_TF p W (q k))
    (H : ∀ (m : Nat) (q' : Nat → ap_ln) (b14 b15 b16 b17 : Nat → Int64), ap_Iv p W bt e q0 m q' → m ≤ e + 9 * (a + 1) → ap_LN m q' b14 b15 b16 b17 → ((D ∨ ∃ i, i < e ∧ ap_TA p W bt (q0 a) ∧ ap_TB W bt (q0 i)) → ∃ k, k < m ∧ ap_TF p W (q' k)) → J7 (nI (a + 1)) f0_present f0_without f0_rows f0_turned f0_unit f0_columns f0_firstWorth f0_worthCount f0_worthTop f0_worthBottom (nI m) f0_empty f0_hasHigh f0_highTop f0_highBottom f0_hasLow f0_lowTop f0_lowBottom f0_branches f0_leastThird f0_greatestThird a1 a2 a3 a4 a5 a6 a7 a8 a9 a10 a11 a12 a13 b14 b15 b16 b17 a18 a19) :
    ∃ k, wX_takeFirstOut_48 post J7 (nI e) (nI a) k 0 f0_present f0_without f0_rows f0_turned f0_unit f0_columns f0_firstWorth f0_worthCount f0_worthTop f0_worthBottom f0_lines f0_empty f0_hasHigh f0_highTop f0_highBottom f0_hasLow f0_lowTop f0_lowBottom f0_branches f0_leastThird f0_greatestThird a1 a2 a3 a4 a5 a6 a7 a8 a9 a10 a11 a12 a13 a14 a15 a16 a17 a18 a19 := by
  subst eL
  refine pk_loop (σ := Nat × (Nat → ap_ln) × (Nat → Int64) × (Nat → Int64) × (Nat → Int64) × (Nat → Int64)) (fun k i s => wX_takeFirstOut_48 post J7 (nI e) (nI a) k (nI i) f0_present f0_without f0_rows f0_turned f0_unit f0_columns f0_firstWorth f0_worthCount f0_worthTop f0_worthBottom (nI s.1) f0_empty f0_hasHigh f0_highTop f0_highBottom f0_hasLow f0_lowTop f0_lowBottom f0_branches f0_leastThird f0_greatestThird a1 a2 a3 a4 a5 a6 a7 a8 a9 a10 a11 a12 a13 s.2.2.1 s.2.2.2.1 s.2.2.2.2.1 s.2.2.2.2.2 a18 a19) (fun i s => ap_Iv p W bt e q0 s.1 s.2.1 ∧ s.1 ≤ e + 9 * a + 1 + i ∧ ap_LN s.1 s.2.1 s.2.2.1 s.2.2.2.1 s.2.2.2.2.1 s.2.2.2.2.2 ∧ ((D ∨ ∃ j, j < i ∧ ap_TA p W bt (q0 a) ∧ ap_TB W bt (q0 j)) → ∃ k, k < s.1 ∧ ap_TF p W (s.2.1 k))) e 0 (n, q, a14, a15, a16, a17) (by omega) ⟨hI, by omega, hL, fun z => ?_⟩ ?_ ?_
  · rcases z with z | ⟨j, hj, _⟩
    · exact hD z
    · exact absurd hj (by omega)
  · rintro k ⟨m, q', b14, b15, b16, b17⟩ ⟨i1, i2, i3, i4⟩
    dsimp only at i1 i2 i3 i4
    exact pk_le e e (fun _ => nm_r (nI_1 a) (H m q' b14 b15 b16 b17 i1 (by omega) i3 i4)) (fun z => absurd z (by omega))
  · rintro k i ⟨m, q', b14, b15, b16, b17⟩ hi ⟨i1, i2, i3, i4⟩ hw
    dsimp only at i1 i2 i3 i4
    have skip : ¬ (ap_TA p W bt (q0 a) ∧ ap_TB W bt (q0 i)) → wX_takeFirstOut_48 post J7 (nI e) (nI a) k (nI (i + 1)) f0_present f0_without f0_rows f0_turned f0_unit f0_columns f0_firstWorth f0_worthCount f0_worthTop f0_worthBottom (nI m) f0_empty f0_hasHigh f0_highTop f0_highBottom f0_hasLow f0_lowTop f0_lowBottom f0_branches f0_leastThird f0_greatestThird a1 a2 a3 a4 a5 a6 a7 a8 a9 a10 a11 a12 a13 b14 b15 b16 b17 a18 a19 := by
      intro no
      refine hw (m, q', b14, b15, b16, b17) ⟨i1, by dsimp only; omega, i3, fun z => i4 ?_⟩
      rcases z with z | ⟨j, hj, z⟩
      · exact Or.inl z
      · by_cases y : j = i
        · subst y
          exact absurd z no
        · exact Or.inr ⟨j, by omega, z⟩
    have qa := i1.2.1 a ha
    have qi := i1.2.1 i hi
    obtain ⟨r1, r2, r3, r4⟩ := i3 a (by have := i1.1; omega)
    obtain ⟨t1, t2, t3, t4⟩ := i3 i (by have := i1.1; omega)
    rw [qa] at r1 r2 r3 r4
    rw [qi] at t1 t2 t3 t4
    obtain ⟨va1, va2, va3⟩ := hV a ha
    obtain ⟨vi1, vi2, vi3⟩ := hV i hi
    have sa := va1
    have si := vi1
    obtain ⟨sa1, sa2, sa3, sa4⟩ := va1
    obtain ⟨si1, si2, si3, si4⟩ := vi1
    refine pk_le e i (fun z => absurd z (by omega)) (fun _ => ⟨pk_in a 512 (by omega), ?_⟩)
    dsimp only
    rw [pk_cl (x := nI a) a, pk_cl (x := nI i) i, r1, r2, r3, r4, t1, t2, t3, t4]
    refine ek_if (ap_Lle0 ⟨by omega, by omega⟩) (fun z => nm_r (nI_1 i) (skip (fun y => ?_))) (fun z => ⟨pk_in i 512 (by omega), ?_⟩)
    · obtain ⟨y1, y2, _⟩ := y.1
      omega
    refine ek_if (ap_Lge0 ⟨by omega, by omega⟩) (fun y => nm_r (nI_1 i) (skip (fun x => ?_))) (fun y => ⟨pk_in a 512 (by omega), nm_e ⟨pk_in i 512 (by omega), nm_r (ap_Lneg _) ⟨pk_in a 512 (by omega), pk_in i 512 (by omega), pk_in a 512 (by omega), pk_in i 512 (by omega), pk_in a 512 (by omega), pk_in i 512 (by omega), ?_⟩⟩⟩)
    · have := x.2.2.1
      omega
    rw [ap_Lmul, ap_Lmul, ap_Lmul, ap_Lmul, ap_Lmul, ap_Lmul, ap_Ladd, ap_Ladd, ap_Ladd]
    have zs : (q0 a).2.2.1 * -(q0 i).2.1 + (q0 i).2.2.1 * (q0 a).2.1 = 0 := by
      rw [va2 (by omega), vi2 (by omega)]
      omega
    have m1 := ap_mul5 sa1 (show -500 ≤ -(q0 i).2.1 ∧ -(q0 i).2.1 ≤ 500 by omega)
    have m2 := ap_mul5 si1 sa2
    have m3 := ap_mul5 sa4 (show -500 ≤ -(q0 i).2.1 ∧ -(q0 i).2.1 ≤ 500 by omega)
    have m4 := ap_mul5 si4 sa2
    refine ap_addLine (f := 0) i3 rfl (by omega) (ap_Iv_sl i1 hV) ⟨by omega, by omega⟩ ⟨by omega, by omega⟩ ⟨by omega, by omega⟩ ⟨by omega, by omega⟩ (fun m' q'' x g c14 c15 c16 c17 g1 g2 g3 g4 => ?_)
    refine nm_r (nI_1 i) (hw (m', q'', c14, c15, c16, c17) ⟨ap_Iv_add i1 g3 ⟨⟨?_, ?_, ?_⟩, ?_⟩, ?_, g4, fun w => ?_⟩)
    · exact ap_scsl g1 g2 (by omega) (by omega) (by omega) (by omega)
    · intro no
      exact absurd (ap_zero g1 (by rw [g2.2.2.1, zs])) no
    · exact ap_sc_ok g1 g2 (ap_meet_ok va3 vi3 (by omega) (by omega))
    · exact ap_zero g1 g2.2.1
    · have := g3.2.1
      dsimp only
      omega
    · rcases w with w | ⟨j, hj, w1, w2⟩
      · exact ap_ex_add (i4 (Or.inl w)) g3
      · by_cases v : j = i
        · subst v
          exact ap_ex_new (ap_meet_TF g1 zs g2 w1 w2) g3
        · exact ap_ex_add (i4 (Or.inr ⟨j, by omega, w1, w2⟩)) g3
/-- what is kept: the lines without the first amount -/
theorem ap_tf170 {post : St2 → Prop} {n : Nat} {q : Nat → ap_ln} (hn : n ≤ 512) (hL : ap_LN n q a14 a15 a16 a17) (eL : f0_lines = nI n) (hs : ∀ k, k < n → ap_sl 1000000 (q k)) (hV : ∀ k, k < n → (q k).2.1 = 0 → ap_V2 p W bt (q k)) (hT : ∃ k, k < n ∧ ap_TF p W (q k))
    (H : ∀ (m : Nat) (q' : Nat → ap_ln) (b14 b15 b16 b17 : Nat → Int64), m ≤ n → ap_LN m q' b14 b15 b16 b17 → (∀ k, k < m → ap_V2 p W bt (q' k) ∧ (q' k).2.1 = 0) → (∃ k, k < m ∧ ap_TF p W (q' k)) → post (f0_present, f0_without, f0_rows, f0_turned, f0_unit, f0_columns, f0_firstWorth, f0_worthCount, f0_worthTop, f0_worthBottom, (nI m), f0_empty, f0_hasHigh, f0_highTop, f0_highBottom, f0_hasLow, f0_lowTop, f0_lowBottom, f0_branches, f0_leastThird, f0_greatestThird, a1, a2, a3, a4, a5, a6, a7, a8, a9, a10, a11, a12, a13, b14, b15, b16, b17, a18, a19)) :
    ∃ k, wX_takeFirstOut_170 post f0_present f0_without f0_rows f0_turned f0_unit f0_columns f0_firstWorth f0_worthCount f0_worthTop f0_worthBottom f0_lines f0_empty f0_hasHigh f0_highTop f0_highBottom f0_hasLow f0_lowTop f0_lowBottom f0_branches f0_leastThird f0_greatestThird k 0 0 a1 a2 a3 a4 a5 a6 a7 a8 a9 a10 a11 a12 a13 a14 a15 a16 a17 a18 a19 := by
  subst eL
  refine pk_loop (σ := Nat × (Nat → ap_ln) × (Nat → Int64) × (Nat → Int64) × (Nat → Int64) × (Nat → Int64)) (fun k i s => wX_takeFirstOut_170 post f0_present f0_without f0_rows f0_turned f0_unit f0_columns f0_firstWorth f0_worthCount f0_worthTop f0_worthBottom (nI n) f0_empty f0_hasHigh f0_highTop f0_highBottom f0_hasLow f0_lowTop f0_lowBottom f0_branches f0_leastThird f0_greatestThird k (nI s.1) (nI i) a1 a2 a3 a4 a5 a6 a7 a8 a9 a10 a11 a12 a13 s.2.2.1 s.2.2.2.1 s.2.2.2.2.1 s.2.2.2.2.2 a18 a19) (fun i s => s.1 ≤ i ∧ ap_LN s.1 s.2.1 s.2.2.1 s.2.2.2.1 s.2.2.2.2.1 s.2.2.2.2.2 ∧ (∀ k, k < s.1 → ap_V2 p W bt (s.2.1 k) ∧ (s.2.1 k).2.1 = 0) ∧ ((∃ k, k < i ∧ ap_TF p W (q k)) → ∃ k, k < s.1 ∧ ap_TF p W (s.2.1 k)) ∧ (∀ k, i ≤ k → k < n → s.2.2.1 k = a14 k ∧ s.2.2.2.1 k = a15 k ∧ s.2.2.2.2.1 k = a16 k ∧ s.2.2.2.2.2 k = a17 k)) n 0 (0, q, a14, a15, a16, a17) (by omega) ⟨by dsimp only; omega, fun k hk => absurd hk (by dsimp only; omega), fun k hk => absurd hk (by dsimp only; omega), fun z => ?_, fun k _ _ => ⟨rfl, rfl, rfl, rfl⟩⟩ ?_ ?_
  · obtain ⟨k, hk, _⟩ := z
    exact absurd hk (by omega)
  · rintro k ⟨m, q', b14, b15, b16, b17⟩ ⟨i1, i2, i3, i4, i5⟩
    dsimp only at i1 i2 i3 i4 i5
    exact pk_le n n (fun _ => H m q' b14 b15 b16 b17 i1 i2 i3 (i4 hT)) (fun z => absurd z (by omega))
  · rintro k i ⟨m, q', b14, b15, b16, b17⟩ hi ⟨i1, i2, i3, i4, i5⟩ hw
    dsimp only at i1 i2 i3 i4 i5
    obtain ⟨r1, r2, r3, r4⟩ := hL i hi
    obtain ⟨j1, j2, j3, j4⟩ := i5 i (by omega) hi
    obtain ⟨s1, s2, s3, s4⟩ := hs i hi
    refine pk_le n i (fun z => absurd z (by omega)) (fun _ => ⟨pk_in i 512 (by omega), ?_⟩)
    dsimp only
    rw [pk_cl (x := nI i) i, pk_cl (x := nI m) m, j1, j2, j3, j4, r1, r2, r3, r4]
    refine ek_if (ap_Leq0 ⟨by omega, by omega⟩) (fun z => ⟨pk_in i 512 (by omega), pk_in m 512 (by omega), nm_e ⟨pk_in m 512 (by omega), nm_e ⟨pk_in i 512 (by omega), pk_in m 512 (by omega), ?_⟩⟩⟩) (fun z => nm_r (nI_1 i) (hw (m, q', b14, b15, b16, b17) ⟨by dsimp only; omega, i2, i3, fun y => ?_, fun k h1 h2 => i5 k (by omega) h2⟩))
    · refine nm_e ⟨pk_in i 512 (by omega), pk_in m 512 (by omega), nm_e (nm_r (nI_1 m) (nm_r (nI_1 i) (hw (m + 1, (fun k => if k = m then q i else q' k), vp_updL b14 m (ap_L (q i).1), vp_updL b15 m 0, vp_updL b16 m (ap_L (q i).2.2.1), vp_updL b17 m (ap_L (q i).2.2.2)) ⟨by dsimp only; omega, fun k hk => ?_, fun k hk => ?_, fun y => ?_, fun k h1 h2 => ?_⟩)))⟩
      · dsimp only at hk ⊢
        by_cases y : k = m
        · subst y
          rw [pk_uLs, pk_uLs, pk_uLs, pk_uLs, if_pos rfl]
          exact ⟨rfl, by rw [z]; rfl, rfl, rfl⟩
        · rw [pk_uLn y, pk_uLn y, pk_uLn y, pk_uLn y, if_neg y]
          exact i2 k (by omega)
      · dsimp only at hk ⊢
        by_cases y : k = m
        · rw [if_pos y]
          exact ⟨hV i hi z, z⟩
        · rw [if_neg y]
          exact i3 k (by omega)
      · dsimp only
        obtain ⟨k, hk, w⟩ := y
        by_cases v : k = i
        · subst v
          exact ⟨m, by omega, by rw [if_pos rfl]; exact w⟩
        · obtain ⟨k', hk', w'⟩ := i4 ⟨k, by omega, w⟩
          exact ⟨k', by omega, by rw [if_neg (by omega)]; exact w'⟩
      · dsimp only
        rw [pk_uLn (by omega), pk_uLn (by omega), pk_uLn (by omega), pk_uLn (by omega)]
        exact i5 k (by omega) h2
    · obtain ⟨k, hk, w⟩ := y
      by_cases v : k = i
      · subst v
        exact absurd w.1 z
      · exact i4 ⟨k, by omega, w⟩
theorem ap_takeFirst {post : St2 → Prop} {e : Nat} {q0 : Nat → ap_ln} (he : e ≤ 8) (hV : ∀ k, k < e → ap_V1 p W bt (q0 k)) (hL : ap_LN e q0 a14 a15 a16 a17) (eL : f0_lines = nI e) (hA : ∃ k, k < e ∧ ap_TA p W bt (q0 k)) (hB : ∃ k, k < e ∧ ap_TB W bt (q0 k))
    (H : ∀ (m : Nat) (q' : Nat → ap_ln) (b14 b15 b16 b17 : Nat → Int64), m ≤ 80 → ap_LN m q' b14 b15 b16 b17 → (∀ k, k < m → ap_V2 p W bt (q' k) ∧ (q' k).2.1 = 0) → (∃ k, k < m ∧ ap_TF p W (q' k)) → post (f0_present, f0_without, f0_rows, f0_turned, f0_unit, f0_columns, f0_firstWorth, f0_worthCount, f0_worthTop, f0_worthBottom, (nI m), f0_empty, f0_hasHigh, f0_highTop, f0_highBottom, f0_hasLow, f0_lowTop, f0_lowBottom, f0_branches, f0_leastThird, f0_greatestThird, a1, a2, a3, a4, a5, a6, a7, a8, a9, a10, a11, a12, a13, b14, b15, b16, b17, a18, a19)) :
    wpX_takeFirstOut post (f0_present, f0_without, f0_rows, f0_turned, f0_unit, f0_columns, f0_firstWorth, f0_worthCount, f0_worthTop, f0_worthBottom, f0_lines, f0_empty, f0_hasHigh, f0_highTop, f0_highBottom, f0_hasLow, f0_lowTop, f0_lowBottom, f0_branches, f0_leastThird, f0_greatestThird, a1, a2, a3, a4, a5, a6, a7, a8, a9, a10, a11, a12, a13, a14, a15, a16, a17, a18, a19) := by
  subst eL
  refine pk_loop (σ := Nat × (Nat → ap_ln) × (Nat → Int64) × (Nat → Int64) × (Nat → Int64) × (Nat → Int64)) (fun k i s => wX_takeFirstOut_7 post (nI e) k (nI i) f0_present f0_without f0_rows f0_turned f0_unit f0_columns f0_firstWorth f0_worthCount f0_worthTop f0_worthBottom (nI s.1) f0_empty f0_hasHigh f0_highTop f0_highBottom f0_hasLow f0_lowTop f0_lowBottom f0_branches f0_leastThird f0_greatestThird a1 a2 a3 a4 a5 a6 a7 a8 a9 a10 a11 a12 a13 s.2.2.1 s.2.2.2.1 s.2.2.2.2.1 s.2.2.2.2.2 a18 a19) (fun i s => ap_Iv p W bt e q0 s.1 s.2.1 ∧ s.1 ≤ e + 9 * i ∧ ap_LN s.1 s.2.1 s.2.2.1 s.2.2.2.1 s.2.2.2.2.1 s.2.2.2.2.2 ∧ ((∃ j, j < i ∧ ap_TA p W bt (q0 j)) → ∃ k, k < s.1 ∧ ap_TF p W (s.2.1 k))) e 0 (e, q0, a14, a15, a16, a17) (by omega) ⟨⟨Nat.le_refl _, fun _ _ => rfl, fun k h1 h2 => absurd h1 (by dsimp only at h2; omega)⟩, by dsimp only; omega, hL, fun z => ?_⟩ ?_ ?_
  · obtain ⟨j, hj, _⟩ := z
    exact absurd hj (by omega)
  · rintro k ⟨m, q', b14, b15, b16, b17⟩ ⟨i1, i2, i3, i4⟩
    dsimp only at i1 i2 i3 i4
    refine pk_le e e (fun _ => ?_) (fun z => absurd z (by omega))
    refine ap_tf170 (p := p) (W := W) (bt := bt) (by omega) i3 rfl (ap_Iv_sl i1 hV) (fun k hk hz => ?_) (i4 hA) (fun m' q'' c14 c15 c16 c17 h1 h2 h3 h4 => H m' q'' c14 c15 c16 c17 (by omega) h2 h3 h4)
    by_cases y : k < e
    · rw [i1.2.1 k y]
      obtain ⟨v1, v2, v3⟩ := hV k y
      exact ⟨ap_sl_mono v1 (by omega), fun _ => v1, v3⟩
    · exact (i1.2.2 k (by omega) hk).1
  · rintro k i ⟨m, q', b14, b15, b16, b17⟩ hi ⟨i1, i2, i3, i4⟩ hw
    dsimp only at i1 i2 i3 i4
    have qi := i1.2.1 i hi
    obtain ⟨t1, t2, t3, t4⟩ := i3 i (by have := i1.1; omega)
    rw [qi] at t1 t2 t3 t4
    obtain ⟨vi1, vi2, vi3⟩ := hV i hi
    have si := vi1
    obtain ⟨si1, si2, si3, si4⟩ := vi1
    have fin : ∀ (m' : Nat) (q'' : Nat → ap_ln) (c14 c15 c16 c17 : Nat → Int64), ap_Iv p W bt e q0 m' q'' → m' ≤ e + 9 * (i + 1) → ap_LN m' q'' c14 c15 c16 c17 → (((∃ j, j < i ∧ ap_TA p W bt (q0 j)) ∨ ∃ j, j < e ∧ ap_TA p W bt (q0 i) ∧ ap_TB W bt (q0 j)) → ∃ k, k < m' ∧ ap_TF p W (q'' k)) → wX_takeFirstOut_7 post (nI e) k (nI (i + 1)) f0_present f0_without f0_rows f0_turned f0_unit f0_columns f0_firstWorth f0_worthCount f0_worthTop f0_worthBottom (nI m') f0_empty f0_hasHigh f0_highTop f0_highBottom f0_hasLow f0_lowTop f0_lowBottom f0_branches f0_leastThird f0_greatestThird a1 a2 a3 a4 a5 a6 a7 a8 a9 a10 a11 a12 a13 c14 c15 c16 c17 a18 a19 := by
      intro m' q'' c14 c15 c16 c17 h1 h2 h3 h4
      refine hw (m', q'', c14, c15, c16, c17) ⟨h1, h2, h3, fun z => h4 ?_⟩
      obtain ⟨j, hj, z⟩ := z
      by_cases y : j = i
      · subst y
        obtain ⟨j', hj', z'⟩ := hB
        exact Or.inr ⟨j', hj', z, z'⟩
      · exact Or.inl ⟨j, by omega, z⟩
    refine pk_le e i (fun z => absurd z (by omega)) (fun _ => ⟨pk_in i 512 (by omega), ?_⟩)
    dsimp only
    rw [pk_cl (x := nI i) i, t1, t2, t3, t4]
    refine ek_if (ap_Leq0 ⟨by omega, by omega⟩) (fun z => ⟨pk_in i 512 (by omega), pk_in i 512 (by omega), pk_in i 512 (by omega), ?_⟩) (fun z => ?_)
    · refine ap_addLine (f := 0) i3 rfl (by omega) (ap_Iv_sl i1 hV) ⟨by omega, by omega⟩ ⟨by omega, by omega⟩ ⟨by omega, by omega⟩ ⟨by omega, by omega⟩ (fun m' q'' x g c14 c15 c16 c17 g1 g2 g3 g4 => ?_)
      have hx : ap_sl 500 x := ap_scsl g1 g2 (by omega) (by omega) (by omega) (by omega)
      refine ap_tf48 he hi hV (ap_Iv_add i1 g3 ⟨⟨ap_sl_mono hx (by omega), fun _ => hx, ap_sc_ok g1 g2 ?_⟩, ap_zero g1 g2.2.1⟩) (by have := g3.2.1; omega) g4 rfl (fun w => ap_ex_add (i4 w) g3) fin
      have o := vi3
      unfold ap_ok at o
      rw [z] at o
      exact o
    · exact ap_tf48 he hi hV i1 (by omega) i3 rfl i4 fin
end
end
section
section
variable {f0_present : Int32}
variable {f0_without : Int32}
variable {f0_rows : Int32}
variable {f0_turned : Int32}
variable {f0_unit : Int64}
variable {f0_columns : Int32}
variable {f0_firstWorth : Int32}
variable {f0_worthCount : Int32}
variable {f0_worthTop : Int64}
variable {f0_worthBottom : Int64}
variable {f0_lines : Int32}
variable {f0_empty : Int32}
variable {f0_hasHigh : Int32}
variable {f0_highTop : Int64}
variable {f0_highBottom : Int64}
variable {f0_hasLow : Int32}
variable {f0_lowTop : Int64}
variable {f0_lowBottom : Int64}
variable {f0_branches : Int32}
variable {f0_leastThird : Int32}
variable {f0_greatestThird : Int32}
variable {a1 : Nat → Int32}
variable {a2 : Nat → Int32}
variable {a3 : Nat → Int32}
variable {a4 : Nat → Int32}
variable {a5 : Nat → Int32}
variable {a6 : Nat → Int32}
variable {a7 : Nat → Int32}
variable {a8 : Nat → Int32}
variable {a9 : Nat → Int32}
variable {a10 : Nat → Int64}
variable {a11 : Nat → Int32}
variable {a12 : Nat → Int32}
variable {a13 : Nat → Int64}
variable {a14 : Nat → Int64}
variable {a15 : Nat → Int64}
variable {a16 : Nat → Int64}
variable {a17 : Nat → Int64}
variable {a18 : Nat → Int32}
variable {a19 : Nat → Int32}
variable {p W bt : Int}
/-- what bounds the worth -/
def ap_HB (p W : Int) (tight : Prop) (e hh : Int32) (ht hb : Int64) (hl : Int32) (lt lb : Int64) : Prop :=
  e = 0 ∧ ((hh = 0 ∧ ¬ tight) ∨ (∃ t b : Int, hh = 1 ∧ ht = ap_L t ∧ hb = ap_L b ∧ ap_s t ∧ ap_s b ∧ 0 < b ∧ b * W ≤ t * p ∧ (tight → t * p ≤ b * W)))
    ∧ (hl = 0 ∨ (∃ t b : Int, hl = 1 ∧ lt = ap_L t ∧ lb = ap_L b ∧ ap_s t ∧ ap_s b ∧ 0 < b ∧ t * p ≤ b * W))
theorem ap_sneg {z : Int} (h : ap_s z) : ap_s (-z) := by
  obtain ⟨h1, h2⟩ := h
  exact ⟨by omega, by omega⟩
theorem ap_boundW {post : St2 → Prop} {w B : Int} {tight tight' : Prop} (hs : ap_HB p W tight f0_empty f0_hasHigh f0_highTop f0_highBottom f0_hasLow f0_lowTop f0_lowBottom) (hp : 0 < p) (hw : ap_s w) (hB : ap_s B) (hv : w * W ≤ B * p) (htt : tight' → tight ∨ (0 < w ∧ B * p ≤ w * W))
    (H : ∀ (e hh : Int32) (ht hb : Int64) (hl : Int32) (lt lb : Int64), ap_HB p W tight' e hh ht hb hl lt lb → post (f0_present, f0_without, f0_rows, f0_turned, f0_unit, f0_columns, f0_firstWorth, f0_worthCount, f0_worthTop, f0_worthBottom, f0_lines, e, hh, ht, hb, hl, lt, lb, f0_branches, f0_leastThird, f0_greatestThird, a1, a2, a3, a4, a5, a6, a7, a8, a9, a10, a11, a12, a13, a14, a15, a16, a17, a18, a19)) :
    wpX_boundWorth post (f0_present, f0_without, f0_rows, f0_turned, f0_unit, f0_columns, f0_firstWorth, f0_worthCount, f0_worthTop, f0_worthBottom, f0_lines, f0_empty, f0_hasHigh, f0_highTop, f0_highBottom, f0_hasLow, f0_lowTop, f0_lowBottom, f0_branches, f0_leastThird, f0_greatestThird, a1, a2, a3, a4, a5, a6, a7, a8, a9, a10, a11, a12, a13, a14, a15, a16, a17, a18, a19) (ap_L w) (ap_L B) := by
  obtain ⟨e0, h1, h2⟩ := hs
  have wb := ap_sb hw
  have bb := ap_sb hB
  refine ek_if (ap_Leq0 wb) (fun z => br_t e0 ?_) (fun z => ?_)
  · have b0 : 0 ≤ B := by
      rw [z, Int.zero_mul] at hv
      rcases Int.lt_or_le B 0 with y | y
      · have := Int.mul_neg_of_neg_of_pos y hp
        omega
      · exact y
    refine ek_if (ap_Lge0 bb) (fun _ => ?_) (fun y => absurd b0 y)
    refine H _ _ _ _ _ _ _ ⟨rfl, ?_, h2⟩
    rcases h1 with ⟨y1, y2⟩ | ⟨t, b, y1, y2, y3, y4, y5, y6, y7, y8⟩
    · exact Or.inl ⟨y1, fun x => by rcases htt x with g | g; exact y2 g; omega⟩
    · exact Or.inr ⟨t, b, y1, y2, y3, y4, y5, y6, y7, fun x => by rcases htt x with g | g; exact y8 g; omega⟩
  · refine ek_if (ap_Lle0 wb) (fun y => ?_) (fun y => ?_)
    · -- from below
      have hv' : -B * p ≤ -w * W := by
        have e1 : -B * p = -(B * p) := by grind
        have e2 : -w * W = -(w * W) := by grind
        omega
      have keepH : (hh : (f0_hasHigh = 0 ∧ ¬ tight) ∨ (∃ t b : Int, f0_hasHigh = 1 ∧ f0_highTop = ap_L t ∧ f0_highBottom = ap_L b ∧ ap_s t ∧ ap_s b ∧ 0 < b ∧ b * W ≤ t * p ∧ (tight → t * p ≤ b * W))) → ((f0_hasHigh = 0 ∧ ¬ tight') ∨ (∃ t b : Int, f0_hasHigh = 1 ∧ f0_highTop = ap_L t ∧ f0_highBottom = ap_L b ∧ ap_s t ∧ ap_s b ∧ 0 < b ∧ b * W ≤ t * p ∧ (tight' → t * p ≤ b * W))) := by
        intro hh
        rcases hh with ⟨y1, y2⟩ | ⟨t, b, y1, y2, y3, y4, y5, y6, y7, y8⟩
        · exact Or.inl ⟨y1, fun x => by rcases htt x with g | g; exact y2 g; omega⟩
        · exact Or.inr ⟨t, b, y1, y2, y3, y4, y5, y6, y7, fun x => by rcases htt x with g | g; exact y8 g; omega⟩
      have new : wX_boundWorth_134 post (ap_L w) (ap_L B) f0_present f0_without f0_rows f0_turned f0_unit f0_columns f0_firstWorth f0_worthCount f0_worthTop f0_worthBottom f0_lines f0_empty f0_hasHigh f0_highTop f0_highBottom f0_hasLow f0_lowTop f0_lowBottom f0_branches f0_leastThird f0_greatestThird a1 a2 a3 a4 a5 a6 a7 a8 a9 a10 a11 a12 a13 a14 a15 a16 a17 a18 a19 := by
        refine br_f (by decide) (br_f (by decide) (nm_r (ap_Lneg w) ?_))
        rw [ap_Lneg]
        exact H _ _ _ _ _ _ _ ⟨e0, keepH h1, Or.inr ⟨-B, -w, rfl, rfl, rfl, ap_sneg hB, ap_sneg hw, by omega, hv'⟩⟩
      rcases h2 with x | ⟨t, b, x1, x2, x3, x4, x5, x6, x7⟩
      · exact br_t x new
      · refine br_f (by rw [x1]; decide) ?_
        rw [ap_Lneg, ap_Lneg, x2, x3, ap_Lmul, ap_Lmul]
        refine ek_if (ap_Lle (ap_smb (ap_sneg hB) x5) (ap_smb x4 (ap_sneg hw))) (fun g => ?_) (fun g => ?_)
        · refine br_t rfl (br_t rfl ?_)
          exact H _ _ _ _ _ _ _ ⟨e0, keepH h1, Or.inr ⟨t, b, rfl, rfl, rfl, x4, x5, x6, x7⟩⟩
        · rw [x2, x3] at new
          exact new
    · -- from above
      have new : (tight' → B * p ≤ w * W) → wX_boundWorth_60 post (ap_L w) (ap_L B) f0_present f0_without f0_rows f0_turned f0_unit f0_columns f0_firstWorth f0_worthCount f0_worthTop f0_worthBottom f0_lines f0_empty f0_hasHigh f0_highTop f0_highBottom f0_hasLow f0_lowTop f0_lowBottom f0_branches f0_leastThird f0_greatestThird a1 a2 a3 a4 a5 a6 a7 a8 a9 a10 a11 a12 a13 a14 a15 a16 a17 a18 a19 := by
        intro g
        refine br_f (by decide) (br_f (by decide) ?_)
        exact H _ _ _ _ _ _ _ ⟨e0, Or.inr ⟨B, w, rfl, rfl, rfl, hB, hw, by omega, hv, g⟩, h2⟩
      rcases h1 with ⟨y1, y2⟩ | ⟨t, b, y1, y2, y3, y4, y5, y6, y7, y8⟩
      · exact br_t y1 (new (fun x => by rcases htt x with g | g; exact absurd g y2; exact g.2))
      · refine br_f (by rw [y1]; decide) ?_
        have new' := new
        rw [y2, y3] at new'
        rw [y2, y3, ap_Lmul, ap_Lmul]
        refine ek_if (ap_Lle (ap_smb y4 hw) (ap_smb hB y5)) (fun g => ?_) (fun g => new' (fun x => ?_))
        · refine br_t rfl (br_t rfl ?_)
          refine H _ _ _ _ _ _ _ ⟨e0, Or.inr ⟨t, b, rfl, rfl, rfl, y4, y5, y6, y7, fun x => ?_⟩, h2⟩
          rcases htt x with k | ⟨k1, k2⟩
          · exact y8 k
          · -- t * w ≤ B * b and B * p ≤ w * W: t * p ≤ b * W
            refine ap_cancel k1 ?_
            have a1 := Int.mul_le_mul_of_nonneg_right g (show 0 ≤ p by omega)
            have a2 := Int.mul_le_mul_of_nonneg_left k2 (show 0 ≤ b by omega)
            have c1 : w * (t * p) = t * w * p := by grind
            have c2 : B * b * p = b * (B * p) := by grind
            have c3 : w * (b * W) = b * (w * W) := by grind
            omega
        · rcases htt x with k | ⟨k1, k2⟩
          · -- B * b < t * w, t * p ≤ b * W: B * p ≤ w * W
            refine ap_cancel y6 ?_
            have k' := y8 k
            have a1 := Int.mul_le_mul_of_nonneg_right (show B * b ≤ t * w by omega) (show 0 ≤ p by omega)
            have a2 := Int.mul_le_mul_of_nonneg_left k' (show 0 ≤ w by omega)
            have c1 : b * (B * p) = B * b * p := by grind
            have c2 : t * w * p = w * (t * p) := by grind
            have c3 : b * (w * W) = w * (b * W) := by grind
            omega
          · exact k2
theorem ap_ts39 {post : St2 → Prop} {J2 : Int32 → ap_JS} {n a : Nat} {q : Nat → ap_ln} {tight : Prop} (hn : n ≤ 80) (ha : a < n) (hp : 0 < p) (hV : ∀ k, k < n → ap_V2 p W bt (q k) ∧ (q k).2.1 = 0) (hL : ap_LN n q a14 a15 a16 a17) (eL : f0_lines = nI n) (hs : ap_HB p W tight f0_empty f0_hasHigh f0_highTop f0_highBottom f0_hasLow f0_lowTop f0_lowBottom)
    (H : ∀ (e hh : Int32) (ht hb : Int64) (hl : Int32) (lt lb : Int64), ap_HB p W tight e hh ht hb hl lt lb → J2 (nI (a + 1)) f0_present f0_without f0_rows f0_turned f0_unit f0_columns f0_firstWorth f0_worthCount f0_worthTop f0_worthBottom f0_lines e hh ht hb hl lt lb f0_branches f0_leastThird f0_greatestThird a1 a2 a3 a4 a5 a6 a7 a8 a9 a10 a11 a12 a13 a14 a15 a16 a17 a18 a19) :
    ∃ k, wX_takeSecondOut_39 post J2 (nI a) k 0 f0_present f0_without f0_rows f0_turned f0_unit f0_columns f0_firstWorth f0_worthCount f0_worthTop f0_worthBottom f0_lines f0_empty f0_hasHigh f0_highTop f0_highBottom f0_hasLow f0_lowTop f0_lowBottom f0_branches f0_leastThird f0_greatestThird a1 a2 a3 a4 a5 a6 a7 a8 a9 a10 a11 a12 a13 a14 a15 a16 a17 a18 a19 := by
  subst eL
  refine pk_loop (σ := Int32 × Int32 × Int64 × Int64 × Int32 × Int64 × Int64) (fun k i s => wX_takeSecondOut_39 post J2 (nI a) k (nI i) f0_present f0_without f0_rows f0_turned f0_unit f0_columns f0_firstWorth f0_worthCount f0_worthTop f0_worthBottom (nI n) s.1 s.2.1 s.2.2.1 s.2.2.2.1 s.2.2.2.2.1 s.2.2.2.2.2.1 s.2.2.2.2.2.2 f0_branches f0_leastThird f0_greatestThird a1 a2 a3 a4 a5 a6 a7 a8 a9 a10 a11 a12 a13 a14 a15 a16 a17 a18 a19) (fun i s => ap_HB p W tight s.1 s.2.1 s.2.2.1 s.2.2.2.1 s.2.2.2.2.1 s.2.2.2.2.2.1 s.2.2.2.2.2.2) n 0 (f0_empty, f0_hasHigh, f0_highTop, f0_highBottom, f0_hasLow, f0_lowTop, f0_lowBottom) (by omega) hs ?_ ?_
  · rintro k ⟨e, hh, ht, hb, hl, lt, lb⟩ h
    exact pk_le n n (fun _ => nm_r (nI_1 a) (H e hh ht hb hl lt lb h)) (fun z => absurd z (by omega))
  · rintro k i ⟨e, hh, ht, hb, hl, lt, lb⟩ hi h hw
    dsimp only at h
    obtain ⟨r1, r2, r3, r4⟩ := hL a ha
    obtain ⟨t1, t2, t3, t4⟩ := hL i hi
    obtain ⟨⟨sa, va, oa⟩, fa⟩ := hV a ha
    obtain ⟨⟨si, vi, oi⟩, fi⟩ := hV i hi
    obtain ⟨sa1, sa2, sa3, sa4⟩ := sa
    obtain ⟨si1, si2, si3, si4⟩ := si
    have nx : wX_takeSecondOut_39 post J2 (nI a) k (nI (i + 1)) f0_present f0_without f0_rows f0_turned f0_unit f0_columns f0_firstWorth f0_worthCount f0_worthTop f0_worthBottom (nI n) e hh ht hb hl lt lb f0_branches f0_leastThird f0_greatestThird a1 a2 a3 a4 a5 a6 a7 a8 a9 a10 a11 a12 a13 a14 a15 a16 a17 a18 a19 := hw (e, hh, ht, hb, hl, lt, lb) h
    refine pk_le n i (fun z => absurd z (by omega)) (fun _ => ⟨pk_in a 512 (by omega), ?_⟩)
    dsimp only
    rw [pk_cl (x := nI a) a, pk_cl (x := nI i) i, r1, r3, r4, t1, t3, t4]
    refine ek_if (ap_Lle0 ⟨by omega, by omega⟩) (fun z => nm_r (nI_1 i) nx) (fun z => ⟨pk_in i 512 (by omega), ?_⟩)
    refine ek_if (ap_Lge0 ⟨by omega, by omega⟩) (fun y => nm_r (nI_1 i) nx) (fun y => ⟨pk_in a 512 (by omega), nm_e ⟨pk_in i 512 (by omega), nm_r (ap_Lneg _) ⟨pk_in a 512 (by omega), pk_in i 512 (by omega), pk_in a 512 (by omega), pk_in i 512 (by omega), ?_⟩⟩⟩)
    rw [ap_Lmul, ap_Lmul, ap_Lmul, ap_Lmul, ap_Ladd, ap_Ladd]
    obtain ⟨ua1, ua2, ua3, ua4⟩ := va (by omega)
    obtain ⟨ui1, ui2, ui3, ui4⟩ := vi (by omega)
    have m1 := ap_mul5 ua1 (show -500 ≤ -(q i).2.2.1 ∧ -(q i).2.2.1 ≤ 500 by omega)
    have m2 := ap_mul5 ui1 ua3
    have m3 := ap_mul5 ua4 (show -500 ≤ -(q i).2.2.1 ∧ -(q i).2.2.1 ≤ 500 by omega)
    have m4 := ap_mul5 ui4 ua3
    refine ap_boundW h hp ⟨by omega, by omega⟩ ⟨by omega, by omega⟩ ?_ (fun x => Or.inl x) (fun e' hh' ht' hb' hl' lt' lb' h' => nm_r (nI_1 i) (hw (e', hh', ht', hb', hl', lt', lb') h'))
    unfold ap_ok at oa oi
    rw [fa, Int.zero_mul] at oa
    rw [fi, Int.zero_mul] at oi
    have a1 := Int.mul_le_mul_of_nonneg_left oa (show 0 ≤ -(q i).2.2.1 by omega)
    have a2 := Int.mul_le_mul_of_nonneg_left oi (show 0 ≤ (q a).2.2.1 by omega)
    have c1 : ((q a).1 * -(q i).2.2.1 + (q i).1 * (q a).2.2.1) * W = -(q i).2.2.1 * ((q a).1 * W + 0) + (q a).2.2.1 * ((q i).1 * W + 0) := by grind
    have c2 : ((q a).2.2.2 * -(q i).2.2.1 + (q i).2.2.2 * (q a).2.2.1) * p = -(q i).2.2.1 * ((q a).2.2.2 * p) + (q a).2.2.1 * ((q i).2.2.2 * p) := by grind
    rw [c1, c2]
    exact Int.add_le_add a1 a2
theorem ap_takeSecond {post : St2 → Prop} {n : Nat} {q : Nat → ap_ln} (hn : n ≤ 80) (hp : 0 < p) (hV : ∀ k, k < n → ap_V2 p W bt (q k) ∧ (q k).2.1 = 0) (hT : ∃ k, k < n ∧ ap_TF p W (q k)) (hL : ap_LN n q a14 a15 a16 a17) (eL : f0_lines = nI n) (h0 : f0_empty = 0) (h1 : f0_hasHigh = 0) (h2 : f0_hasLow = 0)
    (H : ∀ (e hh : Int32) (ht hb : Int64) (hl : Int32) (lt lb : Int64), ap_HB p W True e hh ht hb hl lt lb → post (f0_present, f0_without, f0_rows, f0_turned, f0_unit, f0_columns, f0_firstWorth, f0_worthCount, f0_worthTop, f0_worthBottom, f0_lines, e, hh, ht, hb, hl, lt, lb, f0_branches, f0_leastThird, f0_greatestThird, a1, a2, a3, a4, a5, a6, a7, a8, a9, a10, a11, a12, a13, a14, a15, a16, a17, a18, a19)) : wpX_takeSecondOut post (f0_present, f0_without, f0_rows, f0_turned, f0_unit, f0_columns, f0_firstWorth, f0_worthCount, f0_worthTop, f0_worthBottom, f0_lines, f0_empty, f0_hasHigh, f0_highTop, f0_highBottom, f0_hasLow, f0_lowTop, f0_lowBottom, f0_branches, f0_leastThird, f0_greatestThird, a1, a2, a3, a4, a5, a6, a7, a8, a9, a10, a11, a12, a13, a14, a15, a16, a17, a18, a19) := by
  subst eL
  refine pk_loop (σ := Int32 × Int32 × Int64 × Int64 × Int32 × Int64 × Int64) (fun k i s => wX_takeSecondOut_2 post k (nI i) f0_present f0_without f0_rows f0_turned f0_unit f0_columns f0_firstWorth f0_worthCount f0_worthTop f0_worthBottom (nI n) s.1 s.2.1 s.2.2.1 s.2.2.2.1 s.2.2.2.2.1 s.2.2.2.2.2.1 s.2.2.2.2.2.2 f0_branches f0_leastThird f0_greatestThird a1 a2 a3 a4 a5 a6 a7 a8 a9 a10 a11 a12 a13 a14 a15 a16 a17 a18 a19) (fun i s => ap_HB p W (∃ k, k < i ∧ ap_TF p W (q k)) s.1 s.2.1 s.2.2.1 s.2.2.2.1 s.2.2.2.2.1 s.2.2.2.2.2.1 s.2.2.2.2.2.2) n 0 (f0_empty, f0_hasHigh, f0_highTop, f0_highBottom, f0_hasLow, f0_lowTop, f0_lowBottom) (by omega) ⟨h0, Or.inl ⟨h1, fun z => ?_⟩, Or.inl h2⟩ ?_ ?_
  · obtain ⟨k, hk, _⟩ := z
    exact absurd hk (by omega)
  · rintro k ⟨e, hh, ht, hb, hl, lt, lb⟩ h
    dsimp only at h
    refine pk_le n n (fun _ => H e hh ht hb hl lt lb ?_) (fun z => absurd z (by omega))
    obtain ⟨y0, y1, y2⟩ := h
    refine ⟨y0, ?_, y2⟩
    rcases y1 with ⟨x1, x2⟩ | ⟨t, b, x1, x2, x3, x4, x5, x6, x7, x8⟩
    · exact absurd hT x2
    · exact Or.inr ⟨t, b, x1, x2, x3, x4, x5, x6, x7, fun _ => x8 hT⟩
  · rintro k i ⟨e, hh, ht, hb, hl, lt, lb⟩ hi h hw
    dsimp only at h
    obtain ⟨t1, t2, t3, t4⟩ := hL i hi
    obtain ⟨⟨si, vi, oi⟩, fi⟩ := hV i hi
    obtain ⟨si1, si2, si3, si4⟩ := si
    refine pk_le n i (fun z => absurd z (by omega)) (fun _ => ⟨pk_in i 512 (by omega), ?_⟩)
    dsimp only
    rw [pk_cl (x := nI i) i, t1, t3, t4]
    refine ek_if (ap_Leq0 ⟨by omega, by omega⟩) (fun z => ⟨pk_in i 512 (by omega), pk_in i 512 (by omega), ?_⟩) (fun z => ?_)
    · refine ap_boundW (tight' := ∃ k, k < i + 1 ∧ ap_TF p W (q k)) h hp ⟨by omega, by omega⟩ ⟨by omega, by omega⟩ ?_ (fun x => ?_) (fun e' hh' ht' hb' hl' lt' lb' h' => ?_)
      · unfold ap_ok at oi
        rw [fi, Int.zero_mul] at oi
        omega
      · obtain ⟨k, hk, x⟩ := x
        by_cases y : k = i
        · subst y
          obtain ⟨x1, x2, x3, x4⟩ := x
          exact Or.inr ⟨x3, by omega⟩
        · exact Or.inl ⟨k, by omega, x⟩
      · exact ap_ts39 (bt := bt) hn hi hp hV hL rfl h' (fun e2 hh2 ht2 hb2 hl2 lt2 lb2 h2 => hw (e2, hh2, ht2, hb2, hl2, lt2, lb2) h2)
    · refine ap_ts39 (bt := bt) (tight := ∃ k, k < i + 1 ∧ ap_TF p W (q k)) hn hi hp hV hL rfl ?_ (fun e2 hh2 ht2 hb2 hl2 lt2 lb2 h2 => hw (e2, hh2, ht2, hb2, hl2, lt2, lb2) h2)
      have back : (∃ k, k < i + 1 ∧ ap_TF p W (q k)) → ∃ k, k < i ∧ ap_TF p W (q k) := by
        rintro ⟨k, hk, x⟩
        by_cases y : k = i
        · subst y
          exact absurd x.2.1 z
        · exact ⟨k, by omega, x⟩
      obtain ⟨y0, y1, y2⟩ := h
      refine ⟨y0, ?_, y2⟩
      rcases y1 with ⟨x1, x2⟩ | ⟨t, b, x1, x2, x3, x4, x5, x6, x7, x8⟩
      · exact Or.inl ⟨x1, fun w => x2 (back w)⟩
      · exact Or.inr ⟨t, b, x1, x2, x3, x4, x5, x6, x7, fun w => x8 (back w)⟩
variable {b c : Int}
theorem ap_repl {post : Int32 → Prop} (hc : 2 ≤ c ∧ c ≤ 5) (e7 : ap_V a7 (ap_g c)) (H : post 0) : wpX_replaced post (f0_present, f0_without, f0_rows, f0_turned, f0_unit, f0_columns, f0_firstWorth, f0_worthCount, f0_worthTop, f0_worthBottom, f0_lines, f0_empty, f0_hasHigh, f0_highTop, f0_highBottom, f0_hasLow, f0_lowTop, f0_lowBottom, f0_branches, f0_leastThird, f0_greatestThird, a1, a2, a3, a4, a5, a6, a7, a8, a9, a10, a11, a12, a13, a14, a15, a16, a17, a18, a19) := by
  have hc0 : ¬ ap_I (ap_g c 0) = 0 := by
    show ¬ ap_I c = 0
    rw [← ap_I0, ap_Ieq ⟨by omega, by omega⟩ ⟨by omega, by omega⟩]
    omega
  refine ⟨1, br_f (by decide) ⟨pk_in 0 3 (by omega), ?_⟩⟩
  rw [pk_cl (x := (0 : Int32)) 0]
  refine br_f (by rw [e7 0 (by omega)]; exact hc0) ⟨pk_in 0 3 (by omega), ?_⟩
  rw [pk_cl (x := (0 : Int32)) 0]
  exact br_f (by rw [e7 0 (by omega)]; exact hc0) H
/-- the lines of the eight inequalities -/
def ap_St (p W bt : Int) (n j : Nat) (q : Nat → ap_ln) (b14 b15 b16 b17 : Nat → Int64) : Prop :=
  n ≤ j ∧ ap_LN n q b14 b15 b16 b17 ∧ (∀ k, k < n → ap_V1 p W bt (q k))
theorem ap_St_add {n m j : Nat} {q q' : Nat → ap_ln} {x : ap_ln} {b14 b15 b16 b17 c14 c15 c16 c17 : Nat → Int64} {g w f s B : Int} (h : ap_St p W bt n j q b14 b15 b16 b17) (ha : ap_add n m q q' x) (hL : ap_LN m q' c14 c15 c16 c17) (hg : 0 < g) (hsc : ap_sc g x w f s B)
    (h1 : -500 ≤ w ∧ w ≤ 500) (h2 : -500 ≤ f ∧ f ≤ 500) (h3 : -500 ≤ s ∧ s ≤ 500) (h4 : -500 ≤ B ∧ B ≤ 500) (hfs : f = 0 ∨ s = 0) (ho : w * W + f * bt ≤ B * p) : ap_St p W bt m (j + 1) q' c14 c15 c16 c17 := by
  obtain ⟨k1, k2, k3⟩ := h
  obtain ⟨a1, a2, a3, a4, a5⟩ := ha
  refine ⟨by omega, hL, fun k hk => ?_⟩
  by_cases z : k < n
  · rw [a3 k z]
    exact k3 k z
  · rw [a4 k (by omega) hk]
    refine ⟨ap_scsl hg hsc h1 h2 h3 h4, fun y => ?_, ap_sc_ok hg hsc ho⟩
    rcases hfs with e | e
    · exact absurd (ap_zero hg (by rw [hsc.2.1, e])) y
    · exact ap_zero hg (by rw [hsc.2.2.1, e])
theorem ap_St_sl {n j : Nat} {q : Nat → ap_ln} {b14 b15 b16 b17 : Nat → Int64} (h : ap_St p W bt n j q b14 b15 b16 b17) : ∀ k, k < n → ap_sl 1000000 (q k) := fun k hk => ap_sl_mono (h.2.2 k hk).1 (by omega)
end
end
section
section
variable {f0_present : Int32}
variable {f0_without : Int32}
variable {f0_rows : Int32}
variable {f0_turned : Int32}
variable {f0_unit : Int64}
variable {f0_columns : Int32}
variable {f0_firstWorth : Int32}
variable {f0_worthCount : Int32}
variable {f0_worthTop : Int64}
variable {f0_worthBottom : Int64}
variable {f0_lines : Int32}
variable {f0_empty : Int32}
variable {f0_hasHigh : Int32}
variable {f0_highTop : Int64}
variable {f0_highBottom : Int64}
variable {f0_hasLow : Int32}
variable {f0_lowTop : Int64}
variable {f0_lowBottom : Int64}
variable {f0_branches : Int32}
variable {f0_leastThird : Int32}
variable {f0_greatestThird : Int32}
variable {a1 : Nat → Int32}
variable {a2 : Nat → Int32}
variable {a3 : Nat → Int32}
variable {a4 : Nat → Int32}
variable {a5 : Nat → Int32}
variable {a6 : Nat → Int32}
variable {a7 : Nat → Int32}
variable {a8 : Nat → Int32}
variable {a9 : Nat → Int32}
variable {a10 : Nat → Int64}
variable {a11 : Nat → Int32}
variable {a12 : Nat → Int32}
variable {a13 : Nat → Int64}
variable {a14 : Nat → Int64}
variable {a15 : Nat → Int64}
variable {a16 : Nat → Int64}
variable {a17 : Nat → Int64}
variable {a18 : Nat → Int32}
variable {a19 : Nat → Int32}
variable {p W bt b c : Int}
theorem ap_v0 (hp : 1 ≤ p) (hc : 2 ≤ c) (hW : W = (c - 1) * bt) (h : bt ≤ b) : (1 * p) * W + (c * (1 * 0) + 1 * p) * bt ≤ (c * b) * p := by
  have a := Int.mul_le_mul_of_nonneg_left h (Int.mul_nonneg (show 0 ≤ p by omega) (show 0 ≤ c by omega))
  have e1 : (1 * p) * W + (c * (1 * 0) + 1 * p) * bt = p * c * bt := by rw [hW]; grind
  have e2 : (c * b) * p = p * c * b := by grind
  omega
theorem ap_v1 (hW : W = (c - 1) * bt) : (1 * 1) * W + (c * (1 * -1) + 1 * 1) * bt ≤ (c * 0) * p := by
  have e1 : (1 * 1) * W + (c * (1 * -1) + 1 * 1) * bt = 0 := by rw [hW]; grind
  have e2 : (c * 0) * p = 0 := by grind
  omega
theorem ap_v2 (hc : 2 ≤ c) (hW : W = (c - 1) * bt) (h : bt ≤ 20 * p) : (1 * 1) * W + (c * (1 * 0) + 1 * 1) * bt ≤ (c * 20) * p := by
  have a := Int.mul_le_mul_of_nonneg_left h (show 0 ≤ c by omega)
  have e1 : (1 * 1) * W + (c * (1 * 0) + 1 * 1) * bt = c * bt := by rw [hW]; grind
  have e2 : (c * 20) * p = c * (20 * p) := by grind
  omega
theorem ap_v3 (hc : 2 ≤ c) (h : bt ≤ 20 * p) : (1 * 0) * W + (c * (1 * 1) + 1 * 0) * bt ≤ (c * 20) * p := by
  have a := Int.mul_le_mul_of_nonneg_left h (show 0 ≤ c by omega)
  have e1 : (1 * 0) * W + (c * (1 * 1) + 1 * 0) * bt = c * bt := by grind
  have e2 : (c * 20) * p = c * (20 * p) := by grind
  omega
theorem ap_v4 (hp : 1 ≤ p) (hc : 2 ≤ c) : (1 * 0) * W + (c * (1 * 0) + 1 * 0) * bt ≤ (c * 20) * p := by
  have a := Int.mul_nonneg (show 0 ≤ c by omega) (show 0 ≤ p by omega)
  have e1 : (1 * 0) * W + (c * (1 * 0) + 1 * 0) * bt = 0 := by grind
  have e2 : (c * 20) * p = 20 * (c * p) := by grind
  omega
theorem ap_v5 (hc : 2 ≤ c) (hW : W = (c - 1) * bt) (h : 0 ≤ bt) : (-1 * 1) * W + (c * (-1 * 0) + -1 * 1) * bt ≤ (c * 0) * p := by
  have a := Int.mul_nonneg (show 0 ≤ c by omega) h
  have e1 : (-1 * 1) * W + (c * (-1 * 0) + -1 * 1) * bt = -(c * bt) := by rw [hW]; grind
  have e2 : (c * 0) * p = 0 := by grind
  omega
theorem ap_v6 (hc : 2 ≤ c) (h : 0 ≤ bt) : (-1 * 0) * W + (c * (-1 * 1) + -1 * 0) * bt ≤ (c * 0) * p := by
  have a := Int.mul_nonneg (show 0 ≤ c by omega) h
  have e1 : (-1 * 0) * W + (c * (-1 * 1) + -1 * 0) * bt = -(c * bt) := by grind
  have e2 : (c * 0) * p = 0 := by grind
  omega
theorem ap_v7 : (-1 * 0) * W + (c * (-1 * 0) + -1 * 0) * bt ≤ (c * 0) * p := by
  have e1 : (-1 * 0) * W + (c * (-1 * 0) + -1 * 0) * bt = 0 := by grind
  have e2 : (c * 0) * p = 0 := by grind
  omega
theorem ap_posc {g x y : Int} (hg : 0 < g) (h : g * x = y) (hy : 0 < y) : 0 < x := by
  rcases Int.lt_or_le 0 x with q | q
  · exact q
  · have := Int.mul_nonpos_of_nonneg_of_nonpos (show 0 ≤ g by omega) q
    omega
theorem ap_negc {g x y : Int} (hg : 0 < g) (h : g * x = y) (hy : y < 0) : x < 0 := by
  rcases Int.lt_or_le x 0 with q | q
  · exact q
  · have := Int.mul_nonneg (show 0 ≤ g by omega) q
    omega
theorem ap_TA0 {g : Int} {x : ap_ln} (hp : 1 ≤ p) (hW : W = (c - 1) * bt) (h : bt = b) (hg : 0 < g) (hs : ap_sc g x (1 * p) (c * (1 * 0) + 1 * p) (c * (1 * 0)) (c * b)) : ap_TA p W bt x := by
  obtain ⟨s1, s2, s3, s4⟩ := hs
  refine ⟨ap_cancelE hg (by rw [s1, s2]; omega), ap_posc hg s1 (by omega), ap_cancelE hg ?_⟩
  have e1 : g * (x.2.2.2 * p) = (g * x.2.2.2) * p := by grind
  have e2 : g * (x.1 * (W + bt)) = (g * x.1) * (W + bt) := by grind
  rw [e1, e2, s4, s1, hW, h]
  grind
theorem ap_TA2 {g : Int} {x : ap_ln} (hW : W = (c - 1) * bt) (h : bt = 20 * p) (hg : 0 < g) (hs : ap_sc g x (1 * 1) (c * (1 * 0) + 1 * 1) (c * (1 * 0)) (c * 20)) : ap_TA p W bt x := by
  obtain ⟨s1, s2, s3, s4⟩ := hs
  refine ⟨ap_cancelE hg (by rw [s1, s2]; omega), ap_posc hg s1 (by omega), ap_cancelE hg ?_⟩
  have e1 : g * (x.2.2.2 * p) = (g * x.2.2.2) * p := by grind
  have e2 : g * (x.1 * (W + bt)) = (g * x.1) * (W + bt) := by grind
  rw [e1, e2, s4, s1, hW, h]
  grind
theorem ap_TB1 {g : Int} {x : ap_ln} (hc : 2 ≤ c) (hW : W = (c - 1) * bt) (hg : 0 < g) (hs : ap_sc g x (1 * 1) (c * (1 * -1) + 1 * 1) (c * (1 * 0)) (c * 0)) : ap_TB W bt x := by
  obtain ⟨s1, s2, s3, s4⟩ := hs
  refine ⟨ap_posc hg s1 (by omega), ap_negc hg s2 (by omega), ap_zero hg (by rw [s4]; omega), ap_cancelE hg ?_⟩
  have e1 : g * (x.2.1 * bt) = (g * x.2.1) * bt := by grind
  have e2 : g * -(x.1 * W) = -((g * x.1) * W) := by grind
  rw [e1, e2, s2, s1, hW]
  grind
theorem ap_sbt {post : Int32 → St2 → Prop} (hp : 1 ≤ p ∧ p ≤ 7) (hc : 2 ≤ c ∧ c ≤ 5) (hb0 : 0 ≤ b ∧ b ≤ 99) (hK : ap_K p b c f0_present a1 a2 a3 a4) (eW : f0_without = -1) (e5 : ap_V a5 (fun _ => 0)) (e6 : ap_V a6 (fun _ => 20)) (e7 : ap_V a7 (ap_g c))
    (hW : W = (c - 1) * bt) (hbt0 : 0 ≤ bt) (hbt1 : bt ≤ b) (hbt2 : bt ≤ 20 * p) (hbt3 : bt = b ∨ bt = 20 * p)
    (H : ∀ (t' b' : Int) (x1 y1 y2 y3 y4 : Int32) (z1 z2 z3 z4 : Int64) (b8 b9 : Nat → Int32) (b14 b15 b16 b17 : Nat → Int64), ap_s t' → ap_s b' → 0 < b' → t' * p = b' * W → post 1 (f0_present, f0_without, x1, 0, f0_unit, f0_columns, f0_firstWorth, f0_worthCount, (ap_L t'), (ap_L b'), y1, y2, y3, z1, z2, y4, z3, z4, f0_branches, f0_leastThird, f0_greatestThird, a1, a2, a3, a4, a5, a6, a7, b8, b9, a10, a11, a12, a13, b14, b15, b16, b17, a18, a19)) :
    wpX_solveByTakingOut post (f0_present, f0_without, f0_rows, f0_turned, f0_unit, f0_columns, f0_firstWorth, f0_worthCount, f0_worthTop, f0_worthBottom, f0_lines, f0_empty, f0_hasHigh, f0_highTop, f0_highBottom, f0_hasLow, f0_lowTop, f0_lowBottom, f0_branches, f0_leastThird, f0_greatestThird, a1, a2, a3, a4, a5, a6, a7, a8, a9, a10, a11, a12, a13, a14, a15, a16, a17, a18, a19) := by
  unfold wpX_solveByTakingOut
  refine ap_writeRows hK eW e5 e6 ap_D0 (fun b8 b9 w8 w9 => ?_)
  obtain ⟨u1, u2, u3⟩ := w8
  obtain ⟨v1, v2, v3⟩ := w9
  have n0 : b9 0 = ap_I b := v1.trans (congrArg ap_I (show b - p * 0 - 0 * 0 - 0 * 0 = b by omega))
  have n1 : b9 1 = ap_I 0 := v2
  have n2 : b9 2 = ap_I 20 := v3 0 (by omega)
  have n3 : b9 3 = ap_I 20 := v3 1 (by omega)
  have n4 : b9 4 = ap_I 20 := v3 2 (by omega)
  have cb : 0 ≤ c * b ∧ c * b ≤ 500 := by
    have a1 := Int.mul_nonneg (show 0 ≤ c by omega) hb0.1
    have a2 := Int.mul_le_mul_of_nonneg_left hb0.2 (show 0 ≤ c by omega)
    omega
  refine ap_repl hc e7 ⟨5 + 1, ?_⟩
  have S0 : ap_St p W bt 0 0 (fun _ => (0, 0, 0, 0)) a14 a15 a16 a17 := ⟨by omega, fun k hk => absurd hk (by omega), fun k hk => absurd hk (by omega)⟩
  -- the first inequality
  refine br_f (by decide) ?_
  refine ap_addIneq (r := 0) (m0 := p) (m1 := 0) (m2 := 0) (R := b) 1 b ap_I1.symm rfl S0.2.1 rfl (by omega) (ap_St_sl S0) (by omega) hc (Or.inl rfl) e7 (u1 0 (by omega)) (u1 1 (by omega)) (u1 2 (by omega)) n0 (by omega) (by omega) (by omega) (by omega) (fun m1 q1 x1 g1 c14 c15 c16 c17 k1 k2 k3 k4 => nm_r (nI_1 0) ?_)
  have S1 := ap_St_add S0 k3 k4 k1 k2 (by omega) (by omega) (by omega) (by omega) (Or.inr (by omega)) (ap_v0 hp.1 hc.1 hW hbt1)
  have A1 : bt = b → ∃ k, k < m1 ∧ ap_TA p W bt (q1 k) := fun e => ap_ex_new (ap_TA0 hp.1 hW e k1 k2) k3
  clear k1 k2 k3 k4 S0
  refine br_f (by decide) ?_
  refine ap_addIneq (r := 1) (m0 := 1) (m1 := -1) (m2 := 0) (R := 0) 1 0 ap_I1.symm rfl S1.2.1 rfl (by have := S1.1; omega) (ap_St_sl S1) (by omega) hc (Or.inl rfl) e7 (u2 0 (by omega)) (u2 1 (by omega)) (u2 2 (by omega)) n1 (by omega) (by omega) (by omega) (by omega) (fun m2 q2 x2 g2 d14 d15 d16 d17 k1 k2 k3 k4 => nm_r (nI_1 1) ?_)
  have S2 := ap_St_add S1 k3 k4 k1 k2 (by omega) (by omega) (by omega) (by omega) (Or.inr (by omega)) (ap_v1 hW)
  have B2 : ∃ k, k < m2 ∧ ap_TB W bt (q2 k) := ap_ex_new (ap_TB1 hc.1 hW k1 k2) k3
  have A2 : bt = b → ∃ k, k < m2 ∧ ap_TA p W bt (q2 k) := fun e => ap_ex_add (A1 e) k3
  clear k1 k2 k3 k4 S1 A1
  refine br_f (by decide) ?_
  refine ap_addIneq (r := 2) (m0 := 1) (m1 := 0) (m2 := 0) (R := 20) 1 20 ap_I1.symm rfl S2.2.1 rfl (by have := S2.1; omega) (ap_St_sl S2) (by omega) hc (Or.inl rfl) e7 (u3 0 (by omega) 0 (by omega)) (u3 0 (by omega) 1 (by omega)) (u3 0 (by omega) 2 (by omega)) n2 (by omega) (by omega) (by omega) (by omega) (fun m3 q3 x3 g3 c14 c15 c16 c17 k1 k2 k3 k4 => nm_r (nI_1 2) ?_)
  have S3 := ap_St_add S2 k3 k4 k1 k2 (by omega) (by omega) (by omega) (by omega) (Or.inr (by omega)) (ap_v2 hc.1 hW hbt2)
  have B3 := ap_ex_add B2 k3
  have A3 : ∃ k, k < m3 ∧ ap_TA p W bt (q3 k) := by
    rcases hbt3 with e | e
    · exact ap_ex_add (A2 e) k3
    · exact ap_ex_new (ap_TA2 hW e k1 k2) k3
  clear k1 k2 k3 k4 S2 A2 B2
  refine br_f (by decide) ?_
  refine ap_addIneq (r := 3) (m0 := 0) (m1 := 1) (m2 := 0) (R := 20) 1 20 ap_I1.symm rfl S3.2.1 rfl (by have := S3.1; omega) (ap_St_sl S3) (by omega) hc (Or.inl rfl) e7 (u3 1 (by omega) 0 (by omega)) (u3 1 (by omega) 1 (by omega)) (u3 1 (by omega) 2 (by omega)) n3 (by omega) (by omega) (by omega) (by omega) (fun m4 q4 x4 g4 d14 d15 d16 d17 k1 k2 k3 k4 => nm_r (nI_1 3) ?_)
  have S4 := ap_St_add S3 k3 k4 k1 k2 (by omega) (by omega) (by omega) (by omega) (Or.inr (by omega)) (ap_v3 hc.1 hbt2)
  have B4 := ap_ex_add B3 k3
  have A4 := ap_ex_add A3 k3
  clear k1 k2 k3 k4 S3 A3 B3
  refine br_f (by decide) ?_
  refine ap_addIneq (r := 4) (m0 := 0) (m1 := 0) (m2 := 1) (R := 20) 1 20 ap_I1.symm rfl S4.2.1 rfl (by have := S4.1; omega) (ap_St_sl S4) (by omega) hc (Or.inl rfl) e7 (u3 2 (by omega) 0 (by omega)) (u3 2 (by omega) 1 (by omega)) (u3 2 (by omega) 2 (by omega)) n4 (by omega) (by omega) (by omega) (by omega) (fun m5 q5 x5 g5 c14 c15 c16 c17 k1 k2 k3 k4 => nm_r (nI_1 4) ?_)
  have S5 := ap_St_add S4 k3 k4 k1 k2 (by omega) (by omega) (by omega) (by omega) (Or.inl (by omega)) (ap_v4 hp.1 hc.1)
  have B5 := ap_ex_add B4 k3
  have A5 := ap_ex_add A4 k3
  clear k1 k2 k3 k4 S4 A4 B4
  refine br_t (by decide) (nm_r (show nI 5 - 3 = nI 2 from pk_sub (a := 5) (b := 3) (by omega)) ⟨3 + 1, ?_⟩)
  refine br_f (by decide) ?_
  refine ap_addIneq (r := 2) (m0 := 1) (m1 := 0) (m2 := 0) (R := 20) (-1) 0 ap_Im1.symm rfl S5.2.1 rfl (by have := S5.1; omega) (ap_St_sl S5) (by omega) hc (Or.inr rfl) e7 (u3 0 (by omega) 0 (by omega)) (u3 0 (by omega) 1 (by omega)) (u3 0 (by omega) 2 (by omega)) n2 (by omega) (by omega) (by omega) (by omega) (fun m6 q6 x6 g6 d14 d15 d16 d17 k1 k2 k3 k4 => nm_r (nI_1 2) ?_)
  have S6 := ap_St_add S5 k3 k4 k1 k2 (by omega) (by omega) (by omega) (by omega) (Or.inr (by omega)) (ap_v5 hc.1 hW hbt0)
  have B6 := ap_ex_add B5 k3
  have A6 := ap_ex_add A5 k3
  clear k1 k2 k3 k4 S5 A5 B5
  refine br_f (by decide) ?_
  refine ap_addIneq (r := 3) (m0 := 0) (m1 := 1) (m2 := 0) (R := 20) (-1) 0 ap_Im1.symm rfl S6.2.1 rfl (by have := S6.1; omega) (ap_St_sl S6) (by omega) hc (Or.inr rfl) e7 (u3 1 (by omega) 0 (by omega)) (u3 1 (by omega) 1 (by omega)) (u3 1 (by omega) 2 (by omega)) n3 (by omega) (by omega) (by omega) (by omega) (fun m7 q7 x7 g7 c14 c15 c16 c17 k1 k2 k3 k4 => nm_r (nI_1 3) ?_)
  have S7 := ap_St_add S6 k3 k4 k1 k2 (by omega) (by omega) (by omega) (by omega) (Or.inr (by omega)) (ap_v6 hc.1 hbt0)
  have B7 := ap_ex_add B6 k3
  have A7 := ap_ex_add A6 k3
  clear k1 k2 k3 k4 S6 A6 B6
  refine br_f (by decide) ?_
  refine ap_addIneq (r := 4) (m0 := 0) (m1 := 0) (m2 := 1) (R := 20) (-1) 0 ap_Im1.symm rfl S7.2.1 rfl (by have := S7.1; omega) (ap_St_sl S7) (by omega) hc (Or.inr rfl) e7 (u3 2 (by omega) 0 (by omega)) (u3 2 (by omega) 1 (by omega)) (u3 2 (by omega) 2 (by omega)) n4 (by omega) (by omega) (by omega) (by omega) (fun m8 q8 x8 g8 d14 d15 d16 d17 k1 k2 k3 k4 => nm_r (nI_1 4) ?_)
  have S8 := ap_St_add S7 k3 k4 k1 k2 (by omega) (by omega) (by omega) (by omega) (Or.inl (by omega)) (ap_v7)
  have B8 := ap_ex_add B7 k3
  have A8 := ap_ex_add A7 k3
  clear k1 k2 k3 k4 S7 A7 B7
  refine br_t (by decide) ?_
  refine ap_takeFirst S8.1 S8.2.2 S8.2.1 rfl A8 B8 (fun m q f14 f15 f16 f17 j1 j2 j3 j4 => ?_)
  refine ap_takeSecond j1 (by omega) j3 j4 j2 rfl rfl rfl rfl (fun e hh ht hb hl lt lb h => ?_)
  obtain ⟨h0, h1, h2⟩ := h
  rcases h1 with ⟨_, no⟩ | ⟨t, bb, y1, y2, y3, y4, y5, y6, y7, y8⟩
  · exact absurd trivial no
  have y9 := y8 trivial
  have fin : wX_solveByTakingOut_138 post 0 f0_present f0_without (nI 5) 0 f0_unit f0_columns f0_firstWorth f0_worthCount f0_worthTop f0_worthBottom (nI m) e hh ht hb hl lt lb f0_branches f0_leastThird f0_greatestThird a1 a2 a3 a4 a5 a6 a7 b8 b9 a10 a11 a12 a13 f14 f15 f16 f17 a18 a19 := by
    have hc0 : ¬ a7 0 = 0 := by
      rw [e7 0 (by omega)]
      show ¬ ap_I c = 0
      rw [← ap_I0, ap_Ieq ⟨by omega, by omega⟩ ⟨by omega, by omega⟩]
      omega
    refine ⟨pk_in 0 3 (by omega), ?_⟩
    rw [pk_cl (x := (0 : Int32)) 0]
    refine br_f hc0 ⟨pk_in 0 3 (by omega), ?_⟩
    rw [pk_cl (x := (0 : Int32)) 0]
    refine br_f hc0 ?_
    rw [y2, y3]
    exact H t bb _ _ _ _ _ _ _ _ _ _ _ _ _ _ _ y4 y5 y6 (by omega)
  refine br_t h0 (br_f (by rw [y1]; decide) ?_)
  rcases h2 with z | ⟨s, d, z1, z2, z3, z4, z5, z6, z7⟩
  · exact br_t z fin
  · refine br_f (by rw [z1]; decide) (br_t ?_ fin)
    rw [z2, z3, y2, y3, ap_Lmul, ap_Lmul, ap_Lle (ap_smb z4 y5) (ap_smb y4 z5)]
    -- s * bb ≤ t * d
    refine ap_cancel (show 0 < p by omega) ?_
    have a1 := Int.mul_le_mul_of_nonneg_left z7 (show 0 ≤ bb by omega)
    have a2 := Int.mul_le_mul_of_nonneg_left y7 (show 0 ≤ d by omega)
    have c1 : p * (s * bb) = bb * (s * p) := by grind
    have c2 : p * (t * d) = d * (t * p) := by grind
    have c3 : bb * (d * W) = d * (bb * W) := by grind
    omega
end
end
section
/-- the fixed part of a state -/
def ap_Ks (p b c : Int) (s : St2) : Prop := match s with
  | (f0_present, f0_without, f0_rows, f0_turned, f0_unit, f0_columns, f0_firstWorth, f0_worthCount, f0_worthTop, f0_worthBottom, f0_lines, f0_empty, f0_hasHigh, f0_highTop, f0_highBottom, f0_hasLow, f0_lowTop, f0_lowBottom, f0_branches, f0_leastThird, f0_greatestThird, a1, a2, a3, a4, a5, a6, a7, a8, a9, a10, a11, a12, a13, a14, a15, a16, a17, a18, a19) => ap_K p b c f0_present a1 a2 a3 a4
/-- the worth that came out is W over p; the second amount is bt over p -/
def ap_R1 (p W : Int) (s : St2) : Prop := match s with
  | (f0_present, f0_without, f0_rows, f0_turned, f0_unit, f0_columns, f0_firstWorth, f0_worthCount, f0_worthTop, f0_worthBottom, f0_lines, f0_empty, f0_hasHigh, f0_highTop, f0_highBottom, f0_hasLow, f0_lowTop, f0_lowBottom, f0_branches, f0_leastThird, f0_greatestThird, a1, a2, a3, a4, a5, a6, a7, a8, a9, a10, a11, a12, a13, a14, a15, a16, a17, a18, a19) => ∃ T B : Int, f0_worthTop = ap_L T ∧ f0_worthBottom = ap_L B ∧ (0 ≤ T ∧ T ≤ 1000000) ∧ (0 < B ∧ B ≤ 1000000) ∧ T * p = W * B
def ap_R2 (p bt : Int) (s : St2) : Prop := match s with
  | (f0_present, f0_without, f0_rows, f0_turned, f0_unit, f0_columns, f0_firstWorth, f0_worthCount, f0_worthTop, f0_worthBottom, f0_lines, f0_empty, f0_hasHigh, f0_highTop, f0_highBottom, f0_hasLow, f0_lowTop, f0_lowBottom, f0_branches, f0_leastThird, f0_greatestThird, a1, a2, a3, a4, a5, a6, a7, a8, a9, a10, a11, a12, a13, a14, a15, a16, a17, a18, a19) => ∃ T B : Int, a13 1 = ap_L T ∧ f0_worthBottom = ap_L B ∧ (0 ≤ T ∧ T ≤ 1000000) ∧ (0 < B ∧ B ≤ 1000000) ∧ T * p = bt * B
/-- what is known of the numbers -/
def ap_pbc (p b c bt : Int) : Prop := (1 ≤ p ∧ p ≤ 7) ∧ (2 ≤ c ∧ c ≤ 5) ∧ (0 ≤ b ∧ b ≤ 99) ∧ ((b ≤ 20 * p ∧ bt = b) ∨ (20 * p ≤ b ∧ bt = 20 * p))
section
variable {f0_present : Int32}
variable {f0_without : Int32}
variable {f0_rows : Int32}
variable {f0_turned : Int32}
variable {f0_unit : Int64}
variable {f0_columns : Int32}
variable {f0_firstWorth : Int32}
variable {f0_worthCount : Int32}
variable {f0_worthTop : Int64}
variable {f0_worthBottom : Int64}
variable {f0_lines : Int32}
variable {f0_empty : Int32}
variable {f0_hasHigh : Int32}
variable {f0_highTop : Int64}
variable {f0_highBottom : Int64}
variable {f0_hasLow : Int32}
variable {f0_lowTop : Int64}
variable {f0_lowBottom : Int64}
variable {f0_branches : Int32}
variable {f0_leastThird : Int32}
variable {f0_greatestThird : Int32}
variable {a1 : Nat → Int32}
variable {a2 : Nat → Int32}
variable {a3 : Nat → Int32}
variable {a4 : Nat → Int32}
variable {a5 : Nat → Int32}
variable {a6 : Nat → Int32}
variable {a7 : Nat → Int32}
variable {a8 : Nat → Int32}
variable {a9 : Nat → Int32}
variable {a10 : Nat → Int64}
variable {a11 : Nat → Int32}
variable {a12 : Nat → Int32}
variable {a13 : Nat → Int64}
variable {a14 : Nat → Int64}
variable {a15 : Nat → Int64}
variable {a16 : Nat → Int64}
variable {a17 : Nat → Int64}
variable {a18 : Nat → Int32}
variable {a19 : Nat → Int32}
variable {p b c bt : Int}
theorem ap_mulb {x y : Int} (hx : 0 ≤ x ∧ x ≤ 1000) (hy : 0 ≤ y ∧ y ≤ 1000) : 0 ≤ x * y ∧ x * y ≤ 1000000 := by
  have e : (x * y).natAbs ≤ 1000 * 1000 := by
    rw [Int.natAbs_mul]
    exact Nat.mul_le_mul (by omega) (by omega)
  have e2 := Int.mul_nonneg hx.1 hy.1
  omega
theorem ap_ptR {N B l2 : Int} {wt wb : Int64} {b13 : Nat → Int64} (hc : 2 ≤ c ∧ c ≤ 5) (hN : 0 ≤ N ∧ N ≤ 200) (hB : 1 ≤ B ∧ B ≤ 7) (h : ap_pt c N B l2 b13 wt wb) (e : N * p = bt * B) :
    (∃ T B : Int, wt = ap_L T ∧ wb = ap_L B ∧ (0 ≤ T ∧ T ≤ 1000000) ∧ (0 < B ∧ B ≤ 1000000) ∧ T * p = (c - 1) * bt * B) ∧ (∃ T B : Int, b13 1 = ap_L T ∧ wb = ap_L B ∧ (0 ≤ T ∧ T ≤ 1000000) ∧ (0 < B ∧ B ≤ 1000000) ∧ T * p = bt * B) := by
  obtain ⟨h1, h2, h3, h4, h5⟩ := h
  refine ⟨⟨(c - 1) * N, B, h1, h2, ap_mulb ⟨by omega, by omega⟩ ⟨by omega, by omega⟩, ⟨by omega, by omega⟩, ?_⟩, ⟨N, B, h4, h2, ⟨by omega, by omega⟩, ⟨by omega, by omega⟩, e⟩⟩
  have e1 : (c - 1) * N * p = (c - 1) * (N * p) := by grind
  have e2 : (c - 1) * bt * B = (c - 1) * (bt * B) := by grind
  rw [e1, e2, e]
theorem ap_Kg (hK : ap_K p b c f0_present a1 a2 a3 a4) : ap_V a4 (ap_g c) := hK.2.2.2.2.2.2.2
theorem ap_gb (hc : 2 ≤ c ∧ c ≤ 5) : ∀ i, i < 3 → -100 ≤ ap_g c i ∧ ap_g c i ≤ 100 :=
  ap_lt3 (P := fun i => -100 ≤ ap_g c i ∧ ap_g c i ≤ 100) (show -100 ≤ c ∧ c ≤ 100 by omega) (show (-100 : Int) ≤ -1 ∧ (-1 : Int) ≤ 100 by omega) (show (-100 : Int) ≤ 0 ∧ (0 : Int) ≤ 100 by omega)
/-- the way to the best point between 0 and 20 -/
theorem ap_way1 (h : ap_pbc p b c bt) : ∃ N B : Int, ap_way p b c (fun _ => 0) (fun _ => 20) b 0 20 20 20 N B ∧ (0 ≤ N ∧ N ≤ 200) ∧ (1 ≤ B ∧ B ≤ 7) ∧ N * p = bt * B ∧ ((N = b ∧ B = p ∧ b ≤ 20 * p) ∨ (N = 20 ∧ B = 1 ∧ 20 * p < b)) := by
  obtain ⟨hp, hc, hb, hbt⟩ := h
  have nn : ap_nn b 0 20 20 20 := ⟨by omega, by omega, by omega, by omega, by omega⟩
  by_cases z : b = 0
  · exact ⟨b, p, Or.inr (Or.inr (Or.inl ⟨nn, by omega, by omega, (show b = 0 * p by omega), rfl, rfl⟩)), by omega, hp, (by rw [z, show bt = 0 by omega]), Or.inl ⟨rfl, rfl, by omega⟩⟩
  · by_cases y : b ≤ 20 * p
    · exact ⟨b, p, Or.inl ⟨nn, by omega, by omega, by omega, by omega, rfl, rfl⟩, by omega, hp, (by rw [show bt = b by omega]), Or.inl ⟨rfl, rfl, y⟩⟩
    · exact ⟨20, 1, Or.inr (Or.inl ⟨nn, by omega, by omega, by omega, by omega, rfl, rfl⟩), by omega, by omega, by omega, Or.inr ⟨rfl, rfl, by omega⟩⟩
theorem ap_bd1 (h : ap_pbc p b c bt) : ap_bd p c b 0 20 20 20 0 0 0 0 := by
  obtain ⟨hp, hc, hb, hbt⟩ := h
  exact ap_bdI hp hc (by omega) (by omega) (by omega) (by omega) (by omega) (by omega) (by omega) (by omega) (by omega)
theorem ap_RW1 : ap_RW p b c (fun _ => 0) (fun _ => 20) b 0 20 20 20 0 0 0 0 :=
  ⟨(show b = b - p * 0 by omega), rfl, rfl, rfl, rfl, (show (0 : Int) = c * 0 - 0 by omega), rfl, rfl, rfl⟩
theorem ap_lh1 : ap_lh (fun _ => 0) (fun _ => 20) := fun _ _ => (show ((0 : Int) ≤ 0 ∧ (0 : Int) ≤ 20) ∧ ((0 : Int) ≤ 20 ∧ (20 : Int) ≤ 20) by decide)
theorem ap_sg0 {post : Int32 → St2 → Prop} {s : St2} (h : ap_pbc p b c bt) (hs : ap_Ks p b c s) (H : ∀ s', ap_Ks p b c s' → ap_R1 p ((c - 1) * bt) s' → ap_R2 p bt s' → post 1 s') : wpX_solveGoal post s 0 := by
  obtain ⟨f0_present, f0_without, f0_rows, f0_turned, f0_unit, f0_columns, f0_firstWorth, f0_worthCount, f0_worthTop, f0_worthBottom, f0_lines, f0_empty, f0_hasHigh, f0_highTop, f0_highBottom, f0_hasLow, f0_lowTop, f0_lowBottom, f0_branches, f0_leastThird, f0_greatestThird, a1, a2, a3, a4, a5, a6, a7, a8, a9, a10, a11, a12, a13, a14, a15, a16, a17, a18, a19⟩ := s
  have hK : ap_K p b c f0_present a1 a2 a3 a4 := hs
  unfold wpX_solveGoal
  refine ap_askWhole (fun b5 b6 e5 e6 => ?_)
  refine ap_askGoal (ap_Kg hK) (ap_gb h.2.1) (fun b7 e7 => ?_)
  refine br_t rfl ?_
  obtain ⟨N, B, w1, w2, w3, w4, _⟩ := ap_way1 h
  refine ap_sbpT (ap_bd1 h) ap_RW1 ap_lh1 hK rfl e5 e6 e7 w1 (fun u' x1 x2 x3 x4 wt wb b8 b9 b10 b11 b12 b13 hpt => ?_)
  obtain ⟨r1, r2⟩ := ap_ptR h.2.1 w2 w3 hpt w4
  exact ⟨rfl, rfl, H _ hK r1 r2⟩
theorem ap_sg1 {post : Int32 → St2 → Prop} {s : St2} (h : ap_pbc p b c bt) (hs : ap_Ks p b c s) (H : ∀ s', ap_Ks p b c s' → ap_R1 p ((c - 1) * bt) s' → ap_R2 p bt s' → post 1 s') : wpX_solveGoal post s 1 := by
  obtain ⟨f0_present, f0_without, f0_rows, f0_turned, f0_unit, f0_columns, f0_firstWorth, f0_worthCount, f0_worthTop, f0_worthBottom, f0_lines, f0_empty, f0_hasHigh, f0_highTop, f0_highBottom, f0_hasLow, f0_lowTop, f0_lowBottom, f0_branches, f0_leastThird, f0_greatestThird, a1, a2, a3, a4, a5, a6, a7, a8, a9, a10, a11, a12, a13, a14, a15, a16, a17, a18, a19⟩ := s
  have hK : ap_K p b c f0_present a1 a2 a3 a4 := hs
  have hh := h
  obtain ⟨hp, hc, hb, hbt⟩ := hh
  unfold wpX_solveGoal
  refine ap_askWhole (fun b5 b6 e5 e6 => ?_)
  refine ap_askGoal (ap_Kg hK) (ap_gb h.2.1) (fun b7 e7 => ?_)
  refine br_f (by decide) (br_t rfl ?_)
  obtain ⟨N, B, w1, w2, w3, w4⟩ : ∃ N B : Int, ((b < 20 * p ∧ N = b ∧ B = p) ∨ (20 * p ≤ b ∧ N = 20 ∧ B = 1)) ∧ (0 ≤ N ∧ N ≤ 200) ∧ (1 ≤ B ∧ B ≤ 7) ∧ N * p = bt * B := by
    by_cases y : b < 20 * p
    · exact ⟨b, p, Or.inl ⟨y, rfl, rfl⟩, by omega, hp, by rw [show bt = b by omega]⟩
    · exact ⟨20, 1, Or.inr ⟨by omega, rfl, rfl⟩, by omega, by omega, by omega⟩
  refine ap_sbw hp hc hb hK rfl e5 e6 e7 w1 (fun u' x1 x2 x3 x4 wt wb b8 b9 b10 b11 b12 b13 hpt => ?_)
  obtain ⟨r1, r2⟩ := ap_ptR h.2.1 w2 w3 hpt w4
  exact ⟨rfl, rfl, H _ hK r1 r2⟩
theorem ap_sg2 {post : Int32 → St2 → Prop} {s : St2} (h : ap_pbc p b c bt) (hs : ap_Ks p b c s) (H : ∀ s', ap_Ks p b c s' → ap_R1 p ((c - 1) * bt) s' → post 1 s') : wpX_solveGoal post s 2 := by
  obtain ⟨f0_present, f0_without, f0_rows, f0_turned, f0_unit, f0_columns, f0_firstWorth, f0_worthCount, f0_worthTop, f0_worthBottom, f0_lines, f0_empty, f0_hasHigh, f0_highTop, f0_highBottom, f0_hasLow, f0_lowTop, f0_lowBottom, f0_branches, f0_leastThird, f0_greatestThird, a1, a2, a3, a4, a5, a6, a7, a8, a9, a10, a11, a12, a13, a14, a15, a16, a17, a18, a19⟩ := s
  have hK : ap_K p b c f0_present a1 a2 a3 a4 := hs
  have hh := h
  obtain ⟨hp, hc, hb, hbt⟩ := hh
  unfold wpX_solveGoal
  refine ap_askWhole (fun b5 b6 e5 e6 => ?_)
  refine ap_askGoal (ap_Kg hK) (ap_gb h.2.1) (fun b7 e7 => ?_)
  refine br_f (by decide) (br_f (by decide) ?_)
  have bt0 : 0 ≤ bt := by omega
  refine ap_sbt hp hc hb hK rfl e5 e6 e7 rfl bt0 (by omega) (by omega) (by omega) (fun t' b' x1 y1 y2 y3 y4 z1 z2 z3 z4 b8 b9 b14 b15 b16 b17 k1 k2 k3 k4 => ?_)
  have kk : t' * p = (c - 1) * bt * b' := by rw [k4, Int.mul_comm]
  have t0 : 0 ≤ t' := by
    rcases Int.lt_or_le t' 0 with q | q
    · have a1 := Int.mul_neg_of_neg_of_pos q (show 0 < p by omega)
      have a2 := Int.mul_nonneg (Int.mul_nonneg (show 0 ≤ c - 1 by omega) bt0) (show 0 ≤ b' by omega)
      omega
    · exact q
  obtain ⟨k5, k6⟩ := k1
  obtain ⟨k7, k8⟩ := k2
  exact ⟨rfl, rfl, H _ hK ⟨t', b', rfl, rfl, ⟨t0, k6⟩, ⟨k3, k8⟩, kk⟩⟩
end
end
section
section
variable {f0_present : Int32}
variable {f0_without : Int32}
variable {f0_rows : Int32}
variable {f0_turned : Int32}
variable {f0_unit : Int64}
variable {f0_columns : Int32}
variable {f0_firstWorth : Int32}
variable {f0_worthCount : Int32}
variable {f0_worthTop : Int64}
variable {f0_worthBottom : Int64}
variable {f0_lines : Int32}
variable {f0_empty : Int32}
variable {f0_hasHigh : Int32}
variable {f0_highTop : Int64}
variable {f0_highBottom : Int64}
variable {f0_hasLow : Int32}
variable {f0_lowTop : Int64}
variable {f0_lowBottom : Int64}
variable {f0_branches : Int32}
variable {f0_leastThird : Int32}
variable {f0_greatestThird : Int32}
variable {a1 : Nat → Int32}
variable {a2 : Nat → Int32}
variable {a3 : Nat → Int32}
variable {a4 : Nat → Int32}
variable {a5 : Nat → Int32}
variable {a6 : Nat → Int32}
variable {a7 : Nat → Int32}
variable {a8 : Nat → Int32}
variable {a9 : Nat → Int32}
variable {a10 : Nat → Int64}
variable {a11 : Nat → Int32}
variable {a12 : Nat → Int32}
variable {a13 : Nat → Int64}
variable {a14 : Nat → Int64}
variable {a15 : Nat → Int64}
variable {a16 : Nat → Int64}
variable {a17 : Nat → Int64}
variable {a18 : Nat → Int32}
variable {a19 : Nat → Int32}
variable {pn bn cn btn : Nat}
theorem ap_sgE {post : Int32 → St2 → Prop} {s : St2} {p b c bt : Int} {e : Nat} (he : e < 3) (h : ap_pbc p b c bt) (hs : ap_Ks p b c s) (H : ∀ s', ap_Ks p b c s' → ap_R1 p ((c - 1) * bt) s' → post 1 s') : wpX_solveGoal post s (nI e) :=
  match e, he with
  | 0, _ => ap_sg0 h hs (fun s' a b _ => H s' a b)
  | 1, _ => ap_sg1 h hs (fun s' a b _ => H s' a b)
  | 2, _ => ap_sg2 h hs H
  | n + 3, q => absurd q (by omega)
theorem ap_R1N {T B : Int} (h : ap_pbc pn bn cn btn) (h1 : 0 ≤ T ∧ T ≤ 1000000) (h2 : 0 < B ∧ B ≤ 1000000) (h3 : T * (pn : Int) = ((cn : Int) - 1) * btn * B) : ∃ t b : Nat, T = (t : Int) ∧ B = (b : Int) ∧ t < 2 ^ 60 ∧ b < 2 ^ 60 ∧ 0 < b ∧ t * pn = (cn - 1) * btn * b := by
  obtain ⟨t, rfl⟩ := Int.eq_ofNat_of_zero_le h1.1
  obtain ⟨b, rfl⟩ := Int.eq_ofNat_of_zero_le (show 0 ≤ B by omega)
  have hc := h.2.1
  have c1 : ((cn - 1 : Nat) : Int) = (cn : Int) - 1 := by omega
  rw [← c1] at h3
  exact ⟨t, b, rfl, rfl, by omega, by omega, by omega, by exact_mod_cast h3⟩
theorem ap_bestTop {post : Int32 → St2 → Prop} {s : St2} {e : Nat} (he : e < 3) (h : ap_pbc pn bn cn btn) (hs : ap_Ks pn bn cn s) (H : ∀ s', ap_Ks pn bn cn s' → post (nI ((cn - 1) * btn / Nat.gcd ((cn - 1) * btn) pn)) s') : wpX_bestTop post s (nI e) := by
  obtain ⟨f0_present, f0_without, f0_rows, f0_turned, f0_unit, f0_columns, f0_firstWorth, f0_worthCount, f0_worthTop, f0_worthBottom, f0_lines, f0_empty, f0_hasHigh, f0_highTop, f0_highBottom, f0_hasLow, f0_lowTop, f0_lowBottom, f0_branches, f0_leastThird, f0_greatestThird, a1, a2, a3, a4, a5, a6, a7, a8, a9, a10, a11, a12, a13, a14, a15, a16, a17, a18, a19⟩ := s
  refine br_f (nI_pos (by omega)) (br_f (nI_nlt (a := 2) (b := e) (by omega) (by omega)) ?_)
  refine br_f (by decide) ?_
  refine ap_sgE he h hs (fun s' k1 k2 => ?_)
  obtain ⟨f0_present, f0_without, f0_rows, f0_turned, f0_unit, f0_columns, f0_firstWorth, f0_worthCount, f0_worthTop, f0_worthBottom, f0_lines, f0_empty, f0_hasHigh, f0_highTop, f0_highBottom, f0_hasLow, f0_lowTop, f0_lowBottom, f0_branches, f0_leastThird, f0_greatestThird, a1, a2, a3, a4, a5, a6, a7, a8, a9, a10, a11, a12, a13, a14, a15, a16, a17, a18, a19⟩ := s'
  obtain ⟨T, B, t1, t2, t3, t4, t5⟩ := k2
  obtain ⟨t, b, rfl, rfl, q1, q2, q3, q4⟩ := ap_R1N h t3 t4 t5
  refine br_f (by decide) ?_
  rw [t1, t2, ← ap_lN, ← ap_lN]
  refine ap_topOf q1 q2 q3 ?_
  rw [(ap_frac q4 q3 (by have := h.1; omega)).1]
  exact H _ k1
theorem ap_bestBottom {post : Int32 → St2 → Prop} {s : St2} {e : Nat} (he : e < 3) (h : ap_pbc pn bn cn btn) (hs : ap_Ks pn bn cn s) (H : ∀ s', ap_Ks pn bn cn s' → post (nI (pn / Nat.gcd ((cn - 1) * btn) pn)) s') : wpX_bestBottom post s (nI e) := by
  obtain ⟨f0_present, f0_without, f0_rows, f0_turned, f0_unit, f0_columns, f0_firstWorth, f0_worthCount, f0_worthTop, f0_worthBottom, f0_lines, f0_empty, f0_hasHigh, f0_highTop, f0_highBottom, f0_hasLow, f0_lowTop, f0_lowBottom, f0_branches, f0_leastThird, f0_greatestThird, a1, a2, a3, a4, a5, a6, a7, a8, a9, a10, a11, a12, a13, a14, a15, a16, a17, a18, a19⟩ := s
  refine br_f (nI_pos (by omega)) (br_f (nI_nlt (a := 2) (b := e) (by omega) (by omega)) ?_)
  refine br_f (by decide) ?_
  refine ap_sgE he h hs (fun s' k1 k2 => ?_)
  obtain ⟨f0_present, f0_without, f0_rows, f0_turned, f0_unit, f0_columns, f0_firstWorth, f0_worthCount, f0_worthTop, f0_worthBottom, f0_lines, f0_empty, f0_hasHigh, f0_highTop, f0_highBottom, f0_hasLow, f0_lowTop, f0_lowBottom, f0_branches, f0_leastThird, f0_greatestThird, a1, a2, a3, a4, a5, a6, a7, a8, a9, a10, a11, a12, a13, a14, a15, a16, a17, a18, a19⟩ := s'
  obtain ⟨T, B, t1, t2, t3, t4, t5⟩ := k2
  obtain ⟨t, b, rfl, rfl, q1, q2, q3, q4⟩ := ap_R1N h t3 t4 t5
  refine br_f (by decide) ?_
  rw [t1, t2, ← ap_lN, ← ap_lN]
  refine ap_bottomOf q1 q2 q3 ?_
  rw [(ap_frac q4 q3 (by have := h.1; omega)).2]
  exact H _ k1
theorem ap_R2N {T B : Int} (h1 : 0 ≤ T ∧ T ≤ 1000000) (h2 : 0 < B ∧ B ≤ 1000000) (h3 : T * (pn : Int) = (btn : Int) * B) : ∃ t b : Nat, T = (t : Int) ∧ B = (b : Int) ∧ t < 2 ^ 60 ∧ b < 2 ^ 60 ∧ 0 < b ∧ t * pn = btn * b := by
  obtain ⟨t, rfl⟩ := Int.eq_ofNat_of_zero_le h1.1
  obtain ⟨b, rfl⟩ := Int.eq_ofNat_of_zero_le (show 0 ≤ B by omega)
  exact ⟨t, b, rfl, rfl, by omega, by omega, by omega, by exact_mod_cast h3⟩
theorem ap_pointTop {post : Int32 → St2 → Prop} {s : St2} (h : ap_pbc pn bn cn btn) (hs : ap_Ks pn bn cn s) (H : ∀ s', ap_Ks pn bn cn s' → post (nI (btn / Nat.gcd btn pn)) s') : wpX_pointTop post s 1 := by
  obtain ⟨f0_present, f0_without, f0_rows, f0_turned, f0_unit, f0_columns, f0_firstWorth, f0_worthCount, f0_worthTop, f0_worthBottom, f0_lines, f0_empty, f0_hasHigh, f0_highTop, f0_highBottom, f0_hasLow, f0_lowTop, f0_lowBottom, f0_branches, f0_leastThird, f0_greatestThird, a1, a2, a3, a4, a5, a6, a7, a8, a9, a10, a11, a12, a13, a14, a15, a16, a17, a18, a19⟩ := s
  refine br_f (by decide) (br_f (by decide) ?_)
  refine br_f (by decide) ?_
  refine ap_sg0 h hs (fun s' k1 _ k2 => ?_)
  obtain ⟨f0_present, f0_without, f0_rows, f0_turned, f0_unit, f0_columns, f0_firstWorth, f0_worthCount, f0_worthTop, f0_worthBottom, f0_lines, f0_empty, f0_hasHigh, f0_highTop, f0_highBottom, f0_hasLow, f0_lowTop, f0_lowBottom, f0_branches, f0_leastThird, f0_greatestThird, a1, a2, a3, a4, a5, a6, a7, a8, a9, a10, a11, a12, a13, a14, a15, a16, a17, a18, a19⟩ := s'
  obtain ⟨T, B, t1, t2, t3, t4, t5⟩ := k2
  obtain ⟨t, b, rfl, rfl, q1, q2, q3, q4⟩ := ap_R2N t3 t4 t5
  refine br_f (by decide) ⟨pk_in 1 3 (by omega), ?_⟩
  rw [pk_cl (x := (1 : Int32)) 1, t1, t2, ← ap_lN, ← ap_lN]
  refine ap_topOf q1 q2 q3 ?_
  rw [(ap_frac q4 q3 (by have := h.1; omega)).1]
  exact H _ k1
theorem ap_pointBottom {post : Int32 → St2 → Prop} {s : St2} (h : ap_pbc pn bn cn btn) (hs : ap_Ks pn bn cn s) (H : ∀ s', ap_Ks pn bn cn s' → post (nI (pn / Nat.gcd btn pn)) s') : wpX_pointBottom post s 1 := by
  obtain ⟨f0_present, f0_without, f0_rows, f0_turned, f0_unit, f0_columns, f0_firstWorth, f0_worthCount, f0_worthTop, f0_worthBottom, f0_lines, f0_empty, f0_hasHigh, f0_highTop, f0_highBottom, f0_hasLow, f0_lowTop, f0_lowBottom, f0_branches, f0_leastThird, f0_greatestThird, a1, a2, a3, a4, a5, a6, a7, a8, a9, a10, a11, a12, a13, a14, a15, a16, a17, a18, a19⟩ := s
  refine br_f (by decide) (br_f (by decide) ?_)
  refine br_f (by decide) ?_
  refine ap_sg1 h hs (fun s' k1 _ k2 => ?_)
  obtain ⟨f0_present, f0_without, f0_rows, f0_turned, f0_unit, f0_columns, f0_firstWorth, f0_worthCount, f0_worthTop, f0_worthBottom, f0_lines, f0_empty, f0_hasHigh, f0_highTop, f0_highBottom, f0_hasLow, f0_lowTop, f0_lowBottom, f0_branches, f0_leastThird, f0_greatestThird, a1, a2, a3, a4, a5, a6, a7, a8, a9, a10, a11, a12, a13, a14, a15, a16, a17, a18, a19⟩ := s'
  obtain ⟨T, B, t1, t2, t3, t4, t5⟩ := k2
  obtain ⟨t, b, rfl, rfl, q1, q2, q3, q4⟩ := ap_R2N t3 t4 t5
  refine br_f (by decide) ⟨pk_in 1 3 (by omega), ?_⟩
  rw [pk_cl (x := (1 : Int32)) 1, t1, t2, ← ap_lN, ← ap_lN]
  refine ap_bottomOf q1 q2 q3 ?_
  rw [(ap_frac q4 q3 (by have := h.1; omega)).2]
  exact H _ k1
end
end
section
section
variable {f0_present : Int32}
variable {f0_without : Int32}
variable {f0_rows : Int32}
variable {f0_turned : Int32}
variable {f0_unit : Int64}
variable {f0_columns : Int32}
variable {f0_firstWorth : Int32}
variable {f0_worthCount : Int32}
variable {f0_worthTop : Int64}
variable {f0_worthBottom : Int64}
variable {f0_lines : Int32}
variable {f0_empty : Int32}
variable {f0_hasHigh : Int32}
variable {f0_highTop : Int64}
variable {f0_highBottom : Int64}
variable {f0_hasLow : Int32}
variable {f0_lowTop : Int64}
variable {f0_lowBottom : Int64}
variable {f0_branches : Int32}
variable {f0_leastThird : Int32}
variable {f0_greatestThird : Int32}
variable {a1 : Nat → Int32}
variable {a2 : Nat → Int32}
variable {a3 : Nat → Int32}
variable {a4 : Nat → Int32}
variable {a5 : Nat → Int32}
variable {a6 : Nat → Int32}
variable {a7 : Nat → Int32}
variable {a8 : Nat → Int32}
variable {a9 : Nat → Int32}
variable {a10 : Nat → Int64}
variable {a11 : Nat → Int32}
variable {a12 : Nat → Int32}
variable {a13 : Nat → Int64}
variable {a14 : Nat → Int64}
variable {a15 : Nat → Int64}
variable {a16 : Nat → Int64}
variable {a17 : Nat → Int64}
variable {a18 : Nat → Int32}
variable {a19 : Nat → Int32}
theorem ap_push {post : St2 → Prop} {br : Nat} {l h : Nat → Int} (hbr : br < 64) (eB : f0_branches = nI br) (e5 : ap_V a5 l) (e6 : ap_V a6 h) (hl : ∀ i, i < 3 → -100 ≤ l i ∧ l i ≤ 100) (hh : ∀ i, i < 3 → -100 ≤ h i ∧ h i ≤ 100)
    (H : ∀ b18 b19 : Nat → Int32, (∀ i, i < 3 → b18 (br * 3 + i) = ap_I (l i)) → (∀ j, j < br * 3 → b18 j = a18 j) → (∀ i, i < 3 → b19 (br * 3 + i) = ap_I (h i)) → (∀ j, j < br * 3 → b19 j = a19 j) → post (f0_present, f0_without, f0_rows, f0_turned, f0_unit, f0_columns, f0_firstWorth, f0_worthCount, f0_worthTop, f0_worthBottom, f0_lines, f0_empty, f0_hasHigh, f0_highTop, f0_highBottom, f0_hasLow, f0_lowTop, f0_lowBottom, (nI (br + 1)), f0_leastThird, f0_greatestThird, a1, a2, a3, a4, a5, a6, a7, a8, a9, a10, a11, a12, a13, a14, a15, a16, a17, b18, b19)) : wpX_pushBranch post (f0_present, f0_without, f0_rows, f0_turned, f0_unit, f0_columns, f0_firstWorth, f0_worthCount, f0_worthTop, f0_worthBottom, f0_lines, f0_empty, f0_hasHigh, f0_highTop, f0_highBottom, f0_hasLow, f0_lowTop, f0_lowBottom, f0_branches, f0_leastThird, f0_greatestThird, a1, a2, a3, a4, a5, a6, a7, a8, a9, a10, a11, a12, a13, a14, a15, a16, a17, a18, a19) := by
  subst eB
  refine pk_loop (σ := (Nat → Int32) × (Nat → Int32)) (fun n i s => wX_pushBranch_2 post f0_present f0_without f0_rows f0_turned f0_unit f0_columns f0_firstWorth f0_worthCount f0_worthTop f0_worthBottom f0_lines f0_empty f0_hasHigh f0_highTop f0_highBottom f0_hasLow f0_lowTop f0_lowBottom (nI br) f0_leastThird f0_greatestThird n (nI i) a1 a2 a3 a4 a5 a6 a7 a8 a9 a10 a11 a12 a13 a14 a15 a16 a17 s.1 s.2) (fun m s => (∀ i, i < m → s.1 (br * 3 + i) = ap_I (l i)) ∧ (∀ j, j < br * 3 → s.1 j = a18 j) ∧ (∀ i, i < m → s.2 (br * 3 + i) = ap_I (h i)) ∧ (∀ j, j < br * 3 → s.2 j = a19 j)) 3 0 (a18, a19) (by omega) ⟨fun i hi => absurd hi (by omega), fun _ _ => rfl, fun i hi => absurd hi (by omega), fun _ _ => rfl⟩ ?_ ?_
  · rintro n ⟨s, t⟩ ⟨q1, q2, q3, q4⟩
    exact pk_le 3 3 (fun _ => nm_r (nI_1 br) (H s t q1 q2 q3 q4)) (fun z => absurd z (by omega))
  · rintro n i ⟨s, t⟩ hi ⟨q1, q2, q3, q4⟩ hw
    dsimp only at q1 q2 q3 q4
    have ei : nI br * 3 + nI i = nI (br * 3 + i) := ap_ix 3 br i
    obtain ⟨l1, l2⟩ := hl i hi
    obtain ⟨h1, h2⟩ := hh i hi
    refine pk_le 3 i (fun z => absurd z (by omega)) (fun _ => ⟨pk_in i 3 hi, pk_in (br * 3 + i) 192 (by omega) ei, ?_⟩)
    rw [pk_cl (br * 3 + i) ei, pk_cl (x := nI i) i, e5 i hi, e6 i hi, ap_nar (by omega) (by omega), ap_nar (by omega) (by omega)]
    refine nm_e ⟨pk_in i 3 hi, pk_in (br * 3 + i) 192 (by omega) ei, nm_e (nm_r (nI_1 i) (hw (upd s (br * 3 + i) (ap_I (l i)), upd t (br * 3 + i) (ap_I (h i))) ⟨fun j hj => ?_, fun j hj => ?_, fun j hj => ?_, fun j hj => ?_⟩))⟩
    · by_cases z : j = i
      · rw [z]
        exact pk_us
      · exact (pk_un (by omega)).trans (q1 j (by omega))
    · exact (pk_un (by omega)).trans (q2 j hj)
    · by_cases z : j = i
      · rw [z]
        exact pk_us
      · exact (pk_un (by omega)).trans (q3 j (by omega))
    · exact (pk_un (by omega)).trans (q4 j hj)
theorem ap_floor {post : Int64 → Prop} {T B : Nat} (hT : T < 2 ^ 60) (hB2 : B < 2 ^ 60) (hB : 0 < B) (H : post (lN (T / B))) : wpX_floor post () (lN T) (lN B) := by
  have n1 : ¬ lN B ≤ 0 := fun z => by
    have := (pk_lLE (b := 0) (by omega) (by omega)).mp z
    omega
  have n2 : ¬ lN B = 0 := fun z => by
    have := (pk_lEQ (b := 0) (by omega) (by omega)).mp z
    omega
  have hd : T / B * B ≤ T := Nat.div_mul_le_self T B
  refine br_f n1 ⟨n2, ?_⟩
  rw [pk_lDiv (by omega) hB (by omega)]
  refine br_t ?_ H
  rw [lN_mul, pk_lLE (by omega) (by omega)]
  exact hd
theorem ap_broken {post : Int32 → Prop} {t : Nat → Nat} {B : Nat} (hB : 0 < B) (hB2 : B < 2 ^ 60) (e13 : ∀ i, i < 3 → a13 i = lN (t i) ∧ t i < 2 ^ 60) (eB : f0_worthBottom = lN B)
    (hz : t 0 % B = 0 → t 1 % B = 0 ∧ t 2 % B = 0) (H0 : t 0 % B ≠ 0 → post 0) (H1 : t 0 % B = 0 → post (-1)) : wpX_brokenAmount post (f0_present, f0_without, f0_rows, f0_turned, f0_unit, f0_columns, f0_firstWorth, f0_worthCount, f0_worthTop, f0_worthBottom, f0_lines, f0_empty, f0_hasHigh, f0_highTop, f0_highBottom, f0_hasLow, f0_lowTop, f0_lowBottom, f0_branches, f0_leastThird, f0_greatestThird, a1, a2, a3, a4, a5, a6, a7, a8, a9, a10, a11, a12, a13, a14, a15, a16, a17, a18, a19) := by
  subst eB
  have n2 : ¬ lN B = 0 := fun z => by
    have := (pk_lEQ (b := 0) (by omega) (by omega)).mp z
    omega
  obtain ⟨d0, b0⟩ := e13 0 (by omega)
  obtain ⟨d1, b1⟩ := e13 1 (by omega)
  obtain ⟨d2, b2⟩ := e13 2 (by omega)
  have lt0 := Nat.mod_lt (t 0) hB
  refine ⟨4, br_f (by decide) (br_f n2 ⟨pk_in 0 3 (by omega), n2, ?_⟩)⟩
  rw [pk_cl (x := (0 : Int32)) 0, d0, pk_lRem (by omega) hB (by omega)]
  refine ek_if (pk_lEQ (b := 0) (by omega) (by omega)) (fun z => nm_r (nI_1 0) ?_) (fun z => H0 z)
  obtain ⟨z1, z2⟩ := hz z
  refine br_f (by decide) (br_f n2 ⟨pk_in 1 3 (by omega), n2, ?_⟩)
  rw [pk_cl (x := nI (0 + 1)) 1, d1, pk_lRem (by omega) hB (by omega), z1]
  refine br_t rfl (nm_r (nI_1 1) ?_)
  refine br_f (by decide) (br_f n2 ⟨pk_in 2 3 (by omega), n2, ?_⟩)
  rw [pk_cl (x := nI (1 + 1)) 2, d2, pk_lRem (by omega) hB (by omega), z2]
  refine br_t rfl (nm_r (nI_1 2) ?_)
  exact br_t (by decide) (H1 z)
theorem ap_branchI {post : Int32 → St2 → Prop} {t : Nat → Nat} {B : Nat} {p0 p1 : Int32} (hB : 0 < B) (hB2 : B < 2 ^ 60) (e13 : ∀ i, i < 3 → a13 i = lN (t i) ∧ t i < 2 ^ 60) (eB : f0_worthBottom = lN B) (h0 : t 0 % B = 0) (h1 : t 1 % B = 0) (h2 : t 2 % B = 0)
    (H : post p1 (f0_present, f0_without, f0_rows, f0_turned, f0_unit, f0_columns, f0_firstWorth, f0_worthCount, f0_worthTop, f0_worthBottom, f0_lines, f0_empty, f0_hasHigh, f0_highTop, f0_highBottom, f0_hasLow, f0_lowTop, f0_lowBottom, f0_branches, f0_leastThird, f0_greatestThird, a1, a2, a3, a4, a5, a6, a7, a8, a9, a10, a11, a12, a13, a14, a15, a16, a17, a18, a19)) : wpX_branch post (f0_present, f0_without, f0_rows, f0_turned, f0_unit, f0_columns, f0_firstWorth, f0_worthCount, f0_worthTop, f0_worthBottom, f0_lines, f0_empty, f0_hasHigh, f0_highTop, f0_highBottom, f0_hasLow, f0_lowTop, f0_lowBottom, f0_branches, f0_leastThird, f0_greatestThird, a1, a2, a3, a4, a5, a6, a7, a8, a9, a10, a11, a12, a13, a14, a15, a16, a17, a18, a19) p0 p1 := by
  unfold wpX_branch
  refine ap_broken hB hB2 e13 eB (fun _ => ⟨h1, h2⟩) (fun z => absurd h0 z) (fun _ => ?_)
  exact br_f (by decide) H
theorem ap_byteN {w : Nat} (h : w ≤ 127) : (nI w).toInt8.toInt32 = nI w := by
  rw [ap_nI, ap_byte (by omega) (by omega)]
/-- the parting at the first amount -/
theorem ap_branchS {post : Int32 → St2 → Prop} {t : Nat → Nat} {B w : Nat} {p0 p1 : Int32} (hB : 0 < B) (hB2 : B < 2 ^ 60) (e13 : ∀ i, i < 3 → a13 i = lN (t i) ∧ t i < 2 ^ 60) (eB : f0_worthBottom = lN B) (h0 : t 0 % B ≠ 0) (hw : t 0 / B = w) (hw2 : w ≤ 20) (eBr : f0_branches = nI 0) (e5 : ap_V a5 (fun _ => 0)) (e6 : ap_V a6 (fun _ => 20))
    (H : ∀ b5 b6 b18 b19 : Nat → Int32, (∀ i, i < 3 → b18 (0 * 3 + i) = ap_I ((fun _ => 0) i)) → (∀ i, i < 3 → b19 (0 * 3 + i) = ap_I ((fun i => if i = 0 then (w : Int) else 20) i)) → (∀ i, i < 3 → b18 (1 * 3 + i) = ap_I ((fun i => if i = 0 then (w : Int) + 1 else 0) i)) → (∀ i, i < 3 → b19 (1 * 3 + i) = ap_I ((fun _ => 20) i)) → post p0 (f0_present, f0_without, f0_rows, f0_turned, f0_unit, f0_columns, f0_firstWorth, f0_worthCount, f0_worthTop, f0_worthBottom, f0_lines, f0_empty, f0_hasHigh, f0_highTop, f0_highBottom, f0_hasLow, f0_lowTop, f0_lowBottom, (nI 2), f0_leastThird, f0_greatestThird, a1, a2, a3, a4, b5, b6, a7, a8, a9, a10, a11, a12, a13, a14, a15, a16, a17, b18, b19)) : wpX_branch post (f0_present, f0_without, f0_rows, f0_turned, f0_unit, f0_columns, f0_firstWorth, f0_worthCount, f0_worthTop, f0_worthBottom, f0_lines, f0_empty, f0_hasHigh, f0_highTop, f0_highBottom, f0_hasLow, f0_lowTop, f0_lowBottom, f0_branches, f0_leastThird, f0_greatestThird, a1, a2, a3, a4, a5, a6, a7, a8, a9, a10, a11, a12, a13, a14, a15, a16, a17, a18, a19) p0 p1 := by
  subst eB
  unfold wpX_branch
  refine ap_broken hB hB2 e13 rfl (fun z => absurd z h0) (fun _ => ?_) (fun z => absurd z h0)
  refine br_t (by decide) ⟨pk_in 0 3 (by omega), ?_⟩
  obtain ⟨d0, b0⟩ := e13 0 (by omega)
  rw [pk_cl (x := (0 : Int32)) 0, d0]
  refine ap_floor b0 hB2 hB ?_
  rw [hw, lN_i]
  have x5 : a5 0 = ap_I 0 := e5 0 (by omega)
  have x6 : a6 0 = ap_I 20 := e6 0 (by omega)
  refine ⟨pk_in 0 3 (by omega), nm_r x5 ⟨pk_in 0 3 (by omega), nm_r x6 ⟨pk_in 0 3 (by omega), nm_r (e' := upd a6 0 (nI w)) (by rw [ap_byteN (by omega)]) ?_⟩⟩⟩
  have v6 : ap_V (upd a6 0 (nI w)) (fun i => if i = 0 then (w : Int) else 20) := by
    intro i hi
    by_cases z : i = 0
    · subst z
      rw [pk_us, ap_nI]
      rfl
    · rw [pk_un z, e6 i hi]
      show ap_I 20 = ap_I (if i = 0 then (w : Int) else 20)
      rw [if_neg z]
  refine ap_push (br := 0) (by omega) eBr e5 v6 (fun i _ => (show (-100 : Int) ≤ 0 ∧ (0 : Int) ≤ 100 by decide)) (fun i _ => ?_) (fun c18 c19 k1 k2 k3 k4 => ?_)
  · split <;> omega
  refine ⟨pk_in 0 3 (by omega), nm_r (e' := upd a5 0 (nI (w + 1))) (by rw [nI_1, ap_byteN (by omega)]) ⟨pk_in 0 3 (by omega), nm_r (e' := upd (upd a6 0 (nI w)) 0 (ap_I 20)) (by rw [ap_nar (by omega) (by omega)]) ?_⟩⟩
  have v5 : ap_V (upd a5 0 (nI (w + 1))) (fun i => if i = 0 then (w : Int) + 1 else 0) := by
    intro i hi
    by_cases z : i = 0
    · subst z
      rw [pk_us, ap_nI]
      rfl
    · rw [pk_un z, e5 i hi]
      show ap_I 0 = ap_I (if i = 0 then (w : Int) + 1 else 0)
      rw [if_neg z]
  have v6' : ap_V (upd (upd a6 0 (nI w)) 0 (ap_I 20)) (fun _ => 20) := by
    intro i hi
    by_cases z : i = 0
    · subst z
      rw [pk_us]
    · rw [pk_un z, pk_un z, e6 i hi]
  refine ap_push (br := 1) (by omega) rfl v5 v6' (fun i _ => ?_) (fun i _ => (show (-100 : Int) ≤ 20 ∧ (20 : Int) ≤ 100 by decide)) (fun d18 d19 m1 m2 m3 m4 => ?_)
  · split <;> omega
  refine ⟨pk_in 0 3 (by omega), nm_e ?_⟩
  refine H _ _ d18 d19 (fun i hi => ?_) (fun i hi => ?_) m1 m3
  · rw [m2 _ (by omega), k1 i hi]
  · rw [m4 _ (by omega), k3 i hi]
/-- the next part is taken up -/
theorem ap_pop {post : Int32 → St2 → Prop} {n k br : Nat} {x1 : Int32} {l h : Nat → Int} (hk : k < 1000) (hbr : br < 60) (eB : f0_branches = nI (br + 1)) (e18 : ∀ i, i < 3 → a18 (br * 3 + i) = ap_I (l i)) (e19 : ∀ i, i < 3 → a19 (br * 3 + i) = ap_I (h i)) (hl : ∀ i, i < 3 → -100 ≤ l i ∧ l i ≤ 100) (hh : ∀ i, i < 3 → -100 ≤ h i ∧ h i ≤ 100)
    (H : ∀ (m : Nat) (b5 b6 : Nat → Int32), ap_V b5 l → ap_V b6 h → wX_bestWhole_40 post (wX_bestWhole_14 post n) x1 (nI k) f0_present f0_without f0_rows f0_turned f0_unit f0_columns f0_firstWorth f0_worthCount f0_worthTop f0_worthBottom f0_lines f0_empty f0_hasHigh f0_highTop f0_highBottom f0_hasLow f0_lowTop f0_lowBottom (nI br) f0_leastThird f0_greatestThird (m + 1) (nI 3) a1 a2 a3 a4 b5 b6 a7 a8 a9 a10 a11 a12 a13 a14 a15 a16 a17 a18 a19) : wX_bestWhole_14 post (n + 1) x1 (nI k) f0_present f0_without f0_rows f0_turned f0_unit f0_columns f0_firstWorth f0_worthCount f0_worthTop f0_worthBottom f0_lines f0_empty f0_hasHigh f0_highTop f0_highBottom f0_hasLow f0_lowTop f0_lowBottom f0_branches f0_leastThird f0_greatestThird a1 a2 a3 a4 a5 a6 a7 a8 a9 a10 a11 a12 a13 a14 a15 a16 a17 a18 a19 := by
  subst eB
  refine pk_le 20000 k (fun z => absurd z (by omega)) (fun _ => ?_)
  refine br_f (nI_nle (by omega) (by omega)) (nm_r (nI_pred br) ?_)
  refine pk_loop (σ := (Nat → Int32) × (Nat → Int32)) (fun m i s => wX_bestWhole_40 post (wX_bestWhole_14 post n) x1 (nI k) f0_present f0_without f0_rows f0_turned f0_unit f0_columns f0_firstWorth f0_worthCount f0_worthTop f0_worthBottom f0_lines f0_empty f0_hasHigh f0_highTop f0_highBottom f0_hasLow f0_lowTop f0_lowBottom (nI br) f0_leastThird f0_greatestThird m (nI i) a1 a2 a3 a4 s.1 s.2 a7 a8 a9 a10 a11 a12 a13 a14 a15 a16 a17 a18 a19) (fun m s => (∀ i, i < m → s.1 i = ap_I (l i)) ∧ (∀ i, i < m → s.2 i = ap_I (h i))) 3 0 (a5, a6) (by omega) ⟨fun i hi => absurd hi (by omega), fun i hi => absurd hi (by omega)⟩ ?_ ?_
  · rintro m ⟨s, t⟩ ⟨q1, q2⟩
    exact H m s t q1 q2
  · rintro m i ⟨s, t⟩ hi ⟨q1, q2⟩ hw
    dsimp only at q1 q2
    have ei : nI br * 3 + nI i = nI (br * 3 + i) := ap_ix 3 br i
    obtain ⟨l1, l2⟩ := hl i hi
    obtain ⟨h1, h2⟩ := hh i hi
    refine pk_le 3 i (fun z => absurd z (by omega)) (fun _ => ⟨pk_in (br * 3 + i) 192 (by omega) ei, pk_in i 3 hi, ?_⟩)
    rw [pk_cl (br * 3 + i) ei, pk_cl (x := nI i) i, e18 i hi, e19 i hi, ap_nar (by omega) (by omega), ap_nar (by omega) (by omega)]
    refine nm_e ⟨pk_in (br * 3 + i) 192 (by omega) ei, pk_in i 3 hi, nm_e (nm_r (nI_1 i) (hw (upd s i (ap_I (l i)), upd t i (ap_I (h i))) ⟨fun j hj => ?_, fun j hj => ?_⟩))⟩
    · by_cases z : j = i
      · rw [z]
        exact pk_us
      · exact (pk_un z).trans (q1 j (by omega))
    · by_cases z : j = i
      · rw [z]
        exact pk_us
      · exact (pk_un z).trans (q2 j (by omega))
end
/-- a state at the beginning of a question with bounds -/
def ap_Kq (p b c : Int) (l h : Nat → Int) (s : St2) : Prop := match s with
  | (f0_present, f0_without, f0_rows, f0_turned, f0_unit, f0_columns, f0_firstWorth, f0_worthCount, f0_worthTop, f0_worthBottom, f0_lines, f0_empty, f0_hasHigh, f0_highTop, f0_highBottom, f0_hasLow, f0_lowTop, f0_lowBottom, f0_branches, f0_leastThird, f0_greatestThird, a1, a2, a3, a4, a5, a6, a7, a8, a9, a10, a11, a12, a13, a14, a15, a16, a17, a18, a19) => ap_K p b c f0_present a1 a2 a3 a4 ∧ f0_without = -1 ∧ ap_V a5 l ∧ ap_V a6 h ∧ ap_V a7 (ap_g c)
/-- the best whole worth within bounds is r -/
def ap_BW (p b c : Int) (l h : Nat → Int) (r : Int32) : Prop := ∀ (P : Int32 → St2 → Prop) (s : St2), ap_Kq p b c l h s → (∀ s', ap_Ks p b c s' → P r s') → wpX_bestWhole P s
section
variable {f0_present : Int32}
variable {f0_without : Int32}
variable {f0_rows : Int32}
variable {f0_turned : Int32}
variable {f0_unit : Int64}
variable {f0_columns : Int32}
variable {f0_firstWorth : Int32}
variable {f0_worthCount : Int32}
variable {f0_worthTop : Int64}
variable {f0_worthBottom : Int64}
variable {f0_lines : Int32}
variable {f0_empty : Int32}
variable {f0_hasHigh : Int32}
variable {f0_highTop : Int64}
variable {f0_highBottom : Int64}
variable {f0_hasLow : Int32}
variable {f0_lowTop : Int64}
variable {f0_lowBottom : Int64}
variable {f0_branches : Int32}
variable {f0_leastThird : Int32}
variable {f0_greatestThird : Int32}
variable {a1 : Nat → Int32}
variable {a2 : Nat → Int32}
variable {a3 : Nat → Int32}
variable {a4 : Nat → Int32}
variable {a5 : Nat → Int32}
variable {a6 : Nat → Int32}
variable {a7 : Nat → Int32}
variable {a8 : Nat → Int32}
variable {a9 : Nat → Int32}
variable {a10 : Nat → Int64}
variable {a11 : Nat → Int32}
variable {a12 : Nat → Int32}
variable {a13 : Nat → Int64}
variable {a14 : Nat → Int64}
variable {a15 : Nat → Int64}
variable {a16 : Nat → Int64}
variable {a17 : Nat → Int64}
variable {a18 : Nat → Int32}
variable {a19 : Nat → Int32}
variable {R0 R1 R2 R3 R4 W0 W1 W2 W3 : Int} {l h : Nat → Int} {pn bn cn : Nat}
theorem ap_lh2 (hlh : ap_lh l h) : (∀ i, i < 3 → -100 ≤ l i ∧ l i ≤ 100) ∧ (∀ i, i < 3 → -100 ≤ h i ∧ h i ≤ 100) :=
  ⟨fun i hi => by have := hlh i hi; omega, fun i hi => by have := hlh i hi; omega⟩
theorem ap_ptN {N B : Nat} {wt wb : Int64} {b13 : Nat → Int64} (hc : 2 ≤ cn) (hp : ap_pt cn N B 0 b13 wt wb) : wt = lN ((cn - 1) * N) ∧ wb = lN B ∧ b13 0 = lN N ∧ b13 1 = lN N ∧ b13 2 = lN 0 := by
  obtain ⟨w1, w2, w3, w4, w5⟩ := hp
  refine ⟨?_, ?_, ?_, ?_, ?_⟩
  · rw [w1, ap_lN]
    have c1 : ((cn - 1 : Nat) : Int) = (cn : Int) - 1 := by omega
    rw [Int.natCast_mul, c1]
  · rw [w2, ap_lN]
  · rw [w3, ap_lN]
  · rw [w4, ap_lN]
  · rw [w5, Int.zero_mul, ap_lN]
    rfl
/-- one round that ends with a whole point -/
theorem ap_roundI {post : Int32 → St2 → Prop} {n k m N B v : Nat} (hb : ap_bd pn cn R0 R1 R2 R3 R4 W0 W1 W2 W3) (hRW : ap_RW pn bn cn l h R0 R1 R2 R3 R4 W0 W1 W2 W3) (hlh : ap_lh l h) (hl2 : l 2 = 0) (hK : ap_K pn bn cn f0_present a1 a2 a3 a4) (eW : f0_without = -1) (e5 : ap_V a5 l) (e6 : ap_V a6 h) (e7 : ap_V a7 (ap_g cn))
    (hway : ap_way pn bn cn l h R0 R1 R2 R3 R4 N B) (hB : 1 ≤ B ∧ B ≤ 7) (hN : N ≤ 200) (hv : N = v * B) (hk : k < 1000) (eBr : f0_branches = nI 0)
    (H : ∀ s', ap_Ks pn bn cn s' → post (nI ((cn - 1) * v)) s') :
    wX_bestWhole_40 post (wX_bestWhole_14 post (n + 1)) (-30000000) (nI k) f0_present f0_without f0_rows f0_turned f0_unit f0_columns f0_firstWorth f0_worthCount f0_worthTop f0_worthBottom f0_lines f0_empty f0_hasHigh f0_highTop f0_highBottom f0_hasLow f0_lowTop f0_lowBottom f0_branches f0_leastThird f0_greatestThird (m + 1) (nI 3) a1 a2 a3 a4 a5 a6 a7 a8 a9 a10 a11 a12 a13 a14 a15 a16 a17 a18 a19 := by
  have hc := hb.2.1
  refine pk_le 3 3 (fun _ => ?_) (fun z => absurd z (by omega))
  refine ap_sbpT hb hRW hlh hK eW e5 e6 e7 hway (fun u' x1 x2 x3 x4 wt wb b8 b9 b10 b11 b12 b13 hpt => ?_)
  rw [hl2] at hpt
  obtain ⟨w1, w2, w3, w4, w5⟩ := ap_ptN (by omega) hpt
  subst w1 w2
  refine br_f (by decide) ?_
  have hT : (cn - 1) * N ≤ 4 * 200 := Nat.mul_le_mul (by omega) hN
  have hd : (cn - 1) * N / B = (cn - 1) * v := by
    rw [hv, ← Nat.mul_assoc, Nat.mul_div_cancel _ (by omega)]
  refine ap_floor (by omega) (by omega) (by omega) ?_
  rw [hd]
  refine br_t rfl ?_
  unfold wX_bestWhole_121
  have hm : N % B = 0 := by
    rw [hv, Nat.mul_mod_left]
  refine ap_branchI (t := fun i => if i = 2 then 0 else N) (B := B) (by omega) (by omega) (fun i hi => ?_) rfl hm hm (Nat.zero_mod B) ?_
  · match i, hi with
    | 0, _ => exact ⟨w3, show N < 2 ^ 60 by omega⟩
    | 1, _ => exact ⟨w4, show N < 2 ^ 60 by omega⟩
    | 2, _ => exact ⟨w5, show 0 < 2 ^ 60 by omega⟩
    | n + 3, q => exact absurd q (by omega)
  refine nm_r (nI_1 k) ?_
  refine pk_le 20000 (k + 1) (fun z => absurd z (by omega)) (fun _ => ?_)
  rw [lN_i]
  exact br_t (by rw [eBr]; decide) (H _ hK)
theorem ap_BWint {N B v : Nat} (hb : ap_bd pn cn R0 R1 R2 R3 R4 W0 W1 W2 W3) (hRW : ap_RW pn bn cn l h R0 R1 R2 R3 R4 W0 W1 W2 W3) (hlh : ap_lh l h) (hl2 : l 2 = 0)
    (hway : ap_way pn bn cn l h R0 R1 R2 R3 R4 N B) (hB : 1 ≤ B ∧ B ≤ 7) (hN : N ≤ 200) (hv : N = v * B) : ap_BW pn bn cn l h (nI ((cn - 1) * v)) := by
  intro P s hs H
  obtain ⟨f0_present, f0_without, f0_rows, f0_turned, f0_unit, f0_columns, f0_firstWorth, f0_worthCount, f0_worthTop, f0_worthBottom, f0_lines, f0_empty, f0_hasHigh, f0_highTop, f0_highBottom, f0_hasLow, f0_lowTop, f0_lowBottom, f0_branches, f0_leastThird, f0_greatestThird, a1, a2, a3, a4, a5, a6, a7, a8, a9, a10, a11, a12, a13, a14, a15, a16, a17, a18, a19⟩ := s
  obtain ⟨hK, eW, e5, e6, e7⟩ := hs
  obtain ⟨hl, hh⟩ := ap_lh2 hlh
  unfold wpX_bestWhole
  refine ap_push (br := 0) (by omega) rfl e5 e6 hl hh (fun b18 b19 k1 _ k3 _ => ?_)
  refine ⟨1 + 1, ?_⟩
  refine ap_pop (k := 0) (br := 0) (by omega) (by omega) rfl k1 k3 hl hh (fun m b5 b6 f5 f6 => ?_)
  exact ap_roundI (n := 0) (k := 0) hb hRW hlh hl2 hK eW f5 f6 e7 hway hB hN hv (by omega) rfl H
theorem ap_BWno (hb : ap_bd pn cn R0 R1 R2 R3 R4 W0 W1 W2 W3) (hRW : ap_RW pn bn cn l h R0 R1 R2 R3 R4 W0 W1 W2 W3) (hlh : ap_lh l h) (hnay : ap_nay R0 R1 R2 R3 R4) : ap_BW pn bn cn l h (-30000000) := by
  intro P s hs H
  obtain ⟨f0_present, f0_without, f0_rows, f0_turned, f0_unit, f0_columns, f0_firstWorth, f0_worthCount, f0_worthTop, f0_worthBottom, f0_lines, f0_empty, f0_hasHigh, f0_highTop, f0_highBottom, f0_hasLow, f0_lowTop, f0_lowBottom, f0_branches, f0_leastThird, f0_greatestThird, a1, a2, a3, a4, a5, a6, a7, a8, a9, a10, a11, a12, a13, a14, a15, a16, a17, a18, a19⟩ := s
  obtain ⟨hK, eW, e5, e6, e7⟩ := hs
  obtain ⟨hl, hh⟩ := ap_lh2 hlh
  unfold wpX_bestWhole
  refine ap_push (br := 0) (by omega) rfl e5 e6 hl hh (fun b18 b19 k1 _ k3 _ => ?_)
  refine ⟨1 + 1, ?_⟩
  refine ap_pop (k := 0) (br := 0) (by omega) (by omega) rfl k1 k3 hl hh (fun m b5 b6 f5 f6 => ?_)
  refine pk_le 3 3 (fun _ => ?_) (fun z => absurd z (by omega))
  refine ap_sbpF hb hRW hlh hK eW f5 f6 e7 hnay (fun u' x1 x2 x3 x4 b8 b9 b10 b11 b12 => ?_)
  refine br_t rfl (nm_r (nI_1 0) ?_)
  refine pk_le 20000 1 (fun z => absurd z (by omega)) (fun _ => ?_)
  exact br_t (by decide) (H _ hK)
end
end
section
section
variable {f0_present : Int32}
variable {f0_without : Int32}
variable {f0_rows : Int32}
variable {f0_turned : Int32}
variable {f0_unit : Int64}
variable {f0_columns : Int32}
variable {f0_firstWorth : Int32}
variable {f0_worthCount : Int32}
variable {f0_worthTop : Int64}
variable {f0_worthBottom : Int64}
variable {f0_lines : Int32}
variable {f0_empty : Int32}
variable {f0_hasHigh : Int32}
variable {f0_highTop : Int64}
variable {f0_highBottom : Int64}
variable {f0_hasLow : Int32}
variable {f0_lowTop : Int64}
variable {f0_lowBottom : Int64}
variable {f0_branches : Int32}
variable {f0_leastThird : Int32}
variable {f0_greatestThird : Int32}
variable {a1 : Nat → Int32}
variable {a2 : Nat → Int32}
variable {a3 : Nat → Int32}
variable {a4 : Nat → Int32}
variable {a5 : Nat → Int32}
variable {a6 : Nat → Int32}
variable {a7 : Nat → Int32}
variable {a8 : Nat → Int32}
variable {a9 : Nat → Int32}
variable {a10 : Nat → Int64}
variable {a11 : Nat → Int32}
variable {a12 : Nat → Int32}
variable {a13 : Nat → Int64}
variable {a14 : Nat → Int64}
variable {a15 : Nat → Int64}
variable {a16 : Nat → Int64}
variable {a17 : Nat → Int64}
variable {a18 : Nat → Int32}
variable {a19 : Nat → Int32}
variable {pn bn cn btn : Nat}
theorem ap_BWroot (h : ap_pbc pn bn cn btn) : ap_BW pn bn cn (fun _ => 0) (fun _ => 20) (nI ((cn - 1) * (btn / pn))) := by
  have hh := h
  obtain ⟨hp, hc, hb, hbt⟩ := hh
  obtain ⟨N, B, w1, w2, w3, w4, w5⟩ := ap_way1 h
  rcases w5 with ⟨rfl, rfl, k⟩ | ⟨rfl, rfl, k⟩
  · have eb : btn = bn := by omega
    subst eb
    by_cases z : btn % pn = 0
    · exact ap_BWint (N := btn) (B := pn) (ap_bd1 h) ap_RW1 ap_lh1 rfl w1 (by omega) (by omega) (Nat.div_mul_cancel (Nat.dvd_of_mod_eq_zero z)).symm
    · -- three rounds
      have hdm := Nat.div_add_mod btn pn
      have hml := Nat.mod_lt btn (show 0 < pn by omega)
      generalize hx : btn / pn = x at *
      have px : (pn : Int) * (x : Int) = ((pn * x : Nat) : Int) := by rw [Int.natCast_mul]
      have x19 : x ≤ 19 := by
        rcases Nat.lt_or_ge x 20 with q | q
        · omega
        · have := Nat.mul_le_mul_left pn q
          omega
      have e3 : (btn : Int) - pn * ((x : Int) + 1) = btn - (pn * x : Nat) - pn := by
        rw [← px]
        grind
      intro P s hs H
      obtain ⟨f0_present, f0_without, f0_rows, f0_turned, f0_unit, f0_columns, f0_firstWorth, f0_worthCount, f0_worthTop, f0_worthBottom, f0_lines, f0_empty, f0_hasHigh, f0_highTop, f0_highBottom, f0_hasLow, f0_lowTop, f0_lowBottom, f0_branches, f0_leastThird, f0_greatestThird, a1, a2, a3, a4, a5, a6, a7, a8, a9, a10, a11, a12, a13, a14, a15, a16, a17, a18, a19⟩ := s
      obtain ⟨hK, eW, e5, e6, e7⟩ := hs
      obtain ⟨hl, hu⟩ := ap_lh2 ap_lh1
      unfold wpX_bestWhole
      refine ap_push (br := 0) (by omega) rfl e5 e6 hl hu (fun b18 b19 k1 _ k3 _ => ?_)
      refine ⟨3 + 1, ?_⟩
      refine ap_pop (k := 0) (br := 0) (by omega) (by omega) rfl k1 k3 hl hu (fun m b5 b6 f5 f6 => ?_)
      refine pk_le 3 3 (fun _ => ?_) (fun z => absurd z (by omega))
      refine ap_sbpT (ap_bd1 h) ap_RW1 ap_lh1 hK eW f5 f6 e7 w1 (fun u' x1 x2 x3 x4 wt wb b8 b9 b10 b11 b12 b13 hpt => ?_)
      obtain ⟨y1, y2, y3, y4, y5⟩ := ap_ptN (N := btn) (B := pn) (by omega) hpt
      subst y1 y2
      refine br_f (by decide) ?_
      have hT : (cn - 1) * btn ≤ 4 * 200 := Nat.mul_le_mul (by omega) (by omega)
      refine ap_floor (by omega) (by omega) (by omega) ?_
      refine br_t rfl ?_
      unfold wX_bestWhole_121
      refine ap_branchS (t := fun i => if i = 2 then 0 else btn) (B := pn) (w := x) (by omega) (by omega) (fun i hi => ?_) rfl z hx (by omega) rfl f5 f6 (fun c5 c6 c18 c19 j1 j2 j3 j4 => ?_)
      · match i, hi with
        | 0, _ => exact ⟨y3, show btn < 2 ^ 60 by omega⟩
        | 1, _ => exact ⟨y4, show btn < 2 ^ 60 by omega⟩
        | 2, _ => exact ⟨y5, show 0 < 2 ^ 60 by omega⟩
        | n + 3, q => exact absurd q (by omega)
      refine nm_r (nI_1 0) ?_
      have lhA : ap_lh (fun i => if i = 0 then (x : Int) + 1 else 0) (fun _ => 20) := by
        intro i hi
        dsimp only
        split <;> omega
      have lhB : ap_lh (fun _ => 0) (fun i => if i = 0 then (x : Int) else 20) := by
        intro i hi
        dsimp only
        split <;> omega
      obtain ⟨hlA, huA⟩ := ap_lh2 lhA
      obtain ⟨hlB, huB⟩ := ap_lh2 lhB
      refine ap_pop (k := 1) (br := 1) (by omega) (by omega) rfl j3 j4 hlA huA (fun m b5 b6 f5 f6 => ?_)
      refine pk_le 3 3 (fun _ => ?_) (fun z => absurd z (by omega))
      have cx : (-1000 : Int) ≤ (cn : Int) * ((x : Int) + 1) ∧ (cn : Int) * ((x : Int) + 1) ≤ 1000 := by
        have := ap_mulb (x := (cn : Int)) (y := (x : Int) + 1) ⟨by omega, by omega⟩ ⟨by omega, by omega⟩
        have e : ((cn : Int) * ((x : Int) + 1)).natAbs ≤ 5 * 20 := by
          rw [Int.natAbs_mul]
          exact Nat.mul_le_mul (by omega) (by omega)
        omega
      refine ap_sbpF (R0 := (btn : Int) - pn * ((x : Int) + 1)) (R1 := 0 - ((x : Int) + 1)) (R2 := 20 - ((x : Int) + 1)) (R3 := 20 - 0) (R4 := 20 - 0) (W0 := (cn : Int) * ((x : Int) + 1) - 0) (W1 := -((x : Int) + 1)) (W2 := -0) (W3 := -0) (ap_bdI hp hc (by omega) (by omega) (by omega) (by omega) (by omega) (by omega) (by omega) (by omega) (by omega)) ⟨rfl, rfl, rfl, rfl, rfl, rfl, rfl, rfl, rfl⟩ lhA hK eW f5 f6 e7 ?_ (fun u' x1 x2 x3 x4 b8 b9 b10 b11 b12 => ?_)
      · by_cases y : (0 : Int) - ((x : Int) + 1) < (btn : Int) - pn * ((x : Int) + 1)
        · exact Or.inl ⟨⟨by omega, y, by omega, by omega, by omega⟩, by omega, by omega, by omega, by omega⟩
        · exact Or.inr (Or.inr ⟨by omega, by omega, by omega, by omega, by omega⟩)
      refine br_t rfl (nm_r (nI_1 1) ?_)
      refine ap_pop (k := 2) (br := 0) (by omega) (by omega) rfl j1 j2 hlB huB (fun m b5 b6 f5 f6 => ?_)
      have xp : (x : Int) * (pn : Int) = ((pn * x : Nat) : Int) := by rw [← px, Int.mul_comm]
      refine ap_roundI (l := fun _ => 0) (h := fun i => if i = 0 then (x : Int) else 20) (n := 0) (k := 2) (N := x) (B := 1) (v := x) (R0 := (btn : Int)) (R1 := 0) (R2 := (x : Int)) (R3 := 20) (R4 := 20) (W0 := 0) (W1 := 0) (W2 := 0) (W3 := 0) (ap_bdI hp hc (by omega) (by omega) (by omega) (by omega) (by omega) (by omega) (by omega) (by omega) (by omega)) ⟨(show (btn : Int) = btn - pn * 0 by omega), rfl, (show (x : Int) = x - 0 by omega), rfl, rfl, (show (0 : Int) = cn * 0 - 0 by omega), rfl, rfl, rfl⟩ lhB rfl hK eW f5 f6 e7 ?_ (by omega) (by omega) (by omega) (by omega) rfl H
      exact Or.inr (Or.inl ⟨⟨by omega, by omega, by omega, by omega, by omega⟩, by omega, by omega, by omega, by omega, rfl, rfl⟩)
  · have eb : btn = 20 * pn := by omega
    have e20 : btn / pn = 20 := by
      rw [eb, Nat.mul_div_cancel _ (by omega)]
    rw [e20]
    exact ap_BWint (N := 20) (B := 1) (ap_bd1 h) ap_RW1 ap_lh1 rfl w1 (by omega) (by omega) rfl
theorem ap_whole {post : Int32 → St2 → Prop} {s : St2} (h : ap_pbc pn bn cn btn) (hs : ap_Ks pn bn cn s) (H : ∀ s', ap_Ks pn bn cn s' → post (nI ((cn - 1) * (btn / pn))) s') : wpX_whole post s := by
  obtain ⟨f0_present, f0_without, f0_rows, f0_turned, f0_unit, f0_columns, f0_firstWorth, f0_worthCount, f0_worthTop, f0_worthBottom, f0_lines, f0_empty, f0_hasHigh, f0_highTop, f0_highBottom, f0_hasLow, f0_lowTop, f0_lowBottom, f0_branches, f0_leastThird, f0_greatestThird, a1, a2, a3, a4, a5, a6, a7, a8, a9, a10, a11, a12, a13, a14, a15, a16, a17, a18, a19⟩ := s
  have hK : ap_K pn bn cn f0_present a1 a2 a3 a4 := hs
  unfold wpX_whole
  refine ap_askWhole (fun b5 b6 e5 e6 => ?_)
  refine ap_askGoal (ap_Kg hK) (ap_gb h.2.1) (fun b7 e7 => ?_)
  refine ap_BWroot h _ _ ⟨hK, rfl, e5, e6, e7⟩ (fun s' k => ?_)
  obtain ⟨f0_present, f0_without, f0_rows, f0_turned, f0_unit, f0_columns, f0_firstWorth, f0_worthCount, f0_worthTop, f0_worthBottom, f0_lines, f0_empty, f0_hasHigh, f0_highTop, f0_highBottom, f0_hasLow, f0_lowTop, f0_lowBottom, f0_branches, f0_leastThird, f0_greatestThird, a1, a2, a3, a4, a5, a6, a7, a8, a9, a10, a11, a12, a13, a14, a15, a16, a17, a18, a19⟩ := s'
  exact H _ k
def ap_lo (st x v : Nat) : Nat → Int := fun i => if i < st then (x : Int) else if i = st then (v : Int) else 0
def ap_hi (st x v : Nat) : Nat → Int := fun i => if i < st then (x : Int) else if i = st then (v : Int) else 20
def ap_code (x : Nat) : Nat → Nat
  | 0 => 0
  | n + 1 => x + 21 * ap_code x n
theorem ap_bestWith {post : Int32 → St2 → Prop} {s : St2} {st x v code : Nat} {r : Int32} (hst : st ≤ 2) (hcode : code = ap_code x st) (hx : x ≤ 20) (hv : v ≤ 20) (hc : 2 ≤ (cn : Int) ∧ (cn : Int) ≤ 5) (hs : ap_Ks pn bn cn s) (hbw : ap_BW pn bn cn (ap_lo st x v) (ap_hi st x v) r) (H : ∀ s', ap_Ks pn bn cn s' → post r s') : wpX_bestWith post s (nI st) (nI code) (nI st) (nI v) := by
  obtain ⟨f0_present, f0_without, f0_rows, f0_turned, f0_unit, f0_columns, f0_firstWorth, f0_worthCount, f0_worthTop, f0_worthBottom, f0_lines, f0_empty, f0_hasHigh, f0_highTop, f0_highBottom, f0_hasLow, f0_lowTop, f0_lowBottom, f0_branches, f0_leastThird, f0_greatestThird, a1, a2, a3, a4, a5, a6, a7, a8, a9, a10, a11, a12, a13, a14, a15, a16, a17, a18, a19⟩ := s
  have hK : ap_K pn bn cn f0_present a1 a2 a3 a4 := hs
  have c2 : ∀ n, n ≤ 2 → ap_code x n ≤ 440 := by
    intro n hn
    match n, hn with
    | 0, _ => exact Nat.zero_le _
    | 1, _ => exact (show x + 21 * 0 ≤ 440 by omega)
    | 2, _ => exact (show x + 21 * (x + 21 * 0) ≤ 440 by omega)
    | n + 3, q => exact absurd q (by omega)
  unfold wpX_bestWith
  refine ap_askWhole (fun b5 b6 e5 e6 => ?_)
  refine ap_askGoal (ap_Kg hK) (ap_gb hc) (fun b7 e7 => ?_)
  refine pk_loop (σ := Nat × (Nat → Int32) × (Nat → Int32)) (fun n j s => wX_bestWith_14 post (nI st) (nI st) (nI v) f0_present (-1) f0_rows f0_turned f0_unit f0_columns f0_firstWorth f0_worthCount f0_worthTop f0_worthBottom f0_lines f0_empty f0_hasHigh f0_highTop f0_highBottom f0_hasLow f0_lowTop f0_lowBottom f0_branches f0_leastThird f0_greatestThird n (nI s.1) (nI j) a1 a2 a3 a4 s.2.1 s.2.2 b7 a8 a9 a10 a11 a12 a13 a14 a15 a16 a17 a18 a19) (fun j s => s.1 = ap_code x (st - j) ∧ (∀ i, i < 3 → s.2.1 i = ap_I (if i < j then (x : Int) else 0)) ∧ (∀ i, i < 3 → s.2.2 i = ap_I (if i < j then (x : Int) else 20))) st 0 (code, b5, b6) (by omega) ⟨hcode, fun i hi => ?_, fun i hi => ?_⟩ ?_ ?_
  · rw [if_neg (by omega)]
    exact e5 i hi
  · rw [if_neg (by omega)]
    exact e6 i hi
  · rintro n ⟨rest, d5, d6⟩ ⟨q1, q2, q3⟩
    dsimp only at q1 q2 q3
    refine pk_le st st (fun _ => ⟨pk_in st 3 (by omega), ?_⟩) (fun z => absurd z (by omega))
    dsimp only
    rw [pk_cl (x := nI st) st, ap_byteN (by omega)]
    refine nm_e ⟨pk_in st 3 (by omega), nm_e ?_⟩
    refine hbw _ _ ⟨hK, rfl, fun i hi => ?_, fun i hi => ?_, e7⟩ (fun s' k => ?_)
    · show upd d5 st (nI v) i = ap_I (if i < st then (x : Int) else if i = st then (v : Int) else 0)
      by_cases z : i = st
      · rw [z, pk_us, if_neg (by omega), if_pos rfl, ap_nI]
      · rw [pk_un z, q2 i hi, if_neg z]
    · show upd d6 st (nI v) i = ap_I (if i < st then (x : Int) else if i = st then (v : Int) else 20)
      by_cases z : i = st
      · rw [z, pk_us, if_neg (by omega), if_pos rfl, ap_nI]
      · rw [pk_un z, q3 i hi, if_neg z]
    · obtain ⟨f0_present, f0_without, f0_rows, f0_turned, f0_unit, f0_columns, f0_firstWorth, f0_worthCount, f0_worthTop, f0_worthBottom, f0_lines, f0_empty, f0_hasHigh, f0_highTop, f0_highBottom, f0_hasLow, f0_lowTop, f0_lowBottom, f0_branches, f0_leastThird, f0_greatestThird, a1, a2, a3, a4, a5, a6, a7, a8, a9, a10, a11, a12, a13, a14, a15, a16, a17, a18, a19⟩ := s'
      exact H _ k
  · rintro n j ⟨rest, d5, d6⟩ hj ⟨q1, q2, q3⟩ hw
    dsimp only at q1 q2 q3
    have ec : ap_code x (st - j) = x + 21 * ap_code x (st - (j + 1)) := by
      rw [show st - j = (st - (j + 1)) + 1 by omega]
      rfl
    have c3 := c2 (st - j) (by omega)
    have em : rest % 21 = x := by omega
    have ed : rest / 21 = ap_code x (st - (j + 1)) := by omega
    have er : nI rest - nI rest / 21 * 21 = nI x := by
      have := pk_rem (a := rest) (d := 21) (by omega) (by omega) (by omega)
      rw [em] at this
      exact this
    have eq : nI rest / 21 = nI (ap_code x (st - (j + 1))) := by
      have := pk_div (a := rest) (d := 21) (by omega) (by omega) (by omega)
      rw [ed] at this
      exact this
    refine pk_le st j (fun z => absurd z (by omega)) (fun _ => ⟨by decide, pk_in j 3 (by omega), ?_⟩)
    dsimp only
    rw [pk_cl (x := nI j) j, er, ap_byteN (by omega)]
    refine nm_e ⟨pk_in j 3 (by omega), pk_in j 3 (by omega), ?_⟩
    rw [pk_us, ap_narN (by omega)]
    refine nm_e ⟨by decide, nm_r eq (nm_r (nI_1 j) (hw (ap_code x (st - (j + 1)), upd d5 j (nI x), upd d6 j (nI x)) ⟨rfl, fun i hi => ?_, fun i hi => ?_⟩))⟩
    · dsimp only
      by_cases z : i = j
      · rw [z, pk_us, if_pos (by omega), ap_nI]
      · rw [pk_un z, q2 i hi]
        by_cases y : i < j
        · rw [if_pos y, if_pos (by omega)]
        · rw [if_neg y, if_neg (by omega)]
    · dsimp only
      by_cases z : i = j
      · rw [z, pk_us, if_pos (by omega), ap_nI]
      · rw [pk_un z, q3 i hi]
        by_cases y : i < j
        · rw [if_pos y, if_pos (by omega)]
        · rw [if_neg y, if_neg (by omega)]
end
end
section
section
variable {f0_present : Int32}
variable {f0_without : Int32}
variable {f0_rows : Int32}
variable {f0_turned : Int32}
variable {f0_unit : Int64}
variable {f0_columns : Int32}
variable {f0_firstWorth : Int32}
variable {f0_worthCount : Int32}
variable {f0_worthTop : Int64}
variable {f0_worthBottom : Int64}
variable {f0_lines : Int32}
variable {f0_empty : Int32}
variable {f0_hasHigh : Int32}
variable {f0_highTop : Int64}
variable {f0_highBottom : Int64}
variable {f0_hasLow : Int32}
variable {f0_lowTop : Int64}
variable {f0_lowBottom : Int64}
variable {f0_branches : Int32}
variable {f0_leastThird : Int32}
variable {f0_greatestThird : Int32}
variable {a1 : Nat → Int32}
variable {a2 : Nat → Int32}
variable {a3 : Nat → Int32}
variable {a4 : Nat → Int32}
variable {a5 : Nat → Int32}
variable {a6 : Nat → Int32}
variable {a7 : Nat → Int32}
variable {a8 : Nat → Int32}
variable {a9 : Nat → Int32}
variable {a10 : Nat → Int64}
variable {a11 : Nat → Int32}
variable {a12 : Nat → Int32}
variable {a13 : Nat → Int64}
variable {a14 : Nat → Int64}
variable {a15 : Nat → Int64}
variable {a16 : Nat → Int64}
variable {a17 : Nat → Int64}
variable {a18 : Nat → Int32}
variable {a19 : Nat → Int32}
variable {pn bn cn btn : Nat}
/-- x is the greatest whole first amount -/
def ap_X (pn bn btn x : Nat) : Prop := pn * x ≤ bn ∧ x ≤ 20 ∧ btn / pn = x
theorem ap_Xok (h : ap_pbc pn bn cn btn) : ap_X pn bn btn (btn / pn) := by
  obtain ⟨hp, hc, hb, hbt⟩ := h
  have hm : pn * (btn / pn) ≤ btn := Nat.mul_div_le btn pn
  refine ⟨by omega, ?_, rfl⟩
  rcases Nat.lt_or_ge (btn / pn) 21 with q | q
  · omega
  · have := Nat.mul_le_mul_left pn q
    omega
theorem ap_cz {z : Nat} (hc : 2 ≤ (cn : Int) ∧ (cn : Int) ≤ 5) (hz : z ≤ 20) : (0 : Int) ≤ (cn : Int) * (z : Int) ∧ (cn : Int) * (z : Int) ≤ 100 := by
  have e : cn * z ≤ 5 * 20 := Nat.mul_le_mul (by omega) hz
  have e2 : (cn : Int) * (z : Int) = ((cn * z : Nat) : Int) := by rw [Int.natCast_mul]
  omega
theorem ap_BWv0 {x v : Nat} (h : ap_pbc pn bn cn btn) (hX : ap_X pn bn btn x) (hv : v ≤ x) : ap_BW pn bn cn (ap_lo 0 x v) (ap_hi 0 x v) (nI ((cn - 1) * v)) := by
  obtain ⟨hp, hc, hb, hbt⟩ := h
  obtain ⟨x1, x2, x3⟩ := hX
  have pv : pn * v ≤ bn := Nat.le_trans (Nat.mul_le_mul_left pn hv) x1
  have pvI : (pn : Int) * (v : Int) = ((pn * v : Nat) : Int) := by rw [Int.natCast_mul]
  have cv := ap_cz hc (show v ≤ 20 by omega)
  have np : ((0 : Int) - (v : Int)) * (pn : Int) = -((pn * v : Nat) : Int) := by
    rw [← pvI]
    grind
  have lh : ap_lh (ap_lo 0 x v) (ap_hi 0 x v) := by
    refine ap_lt3 (P := fun i => (0 ≤ ap_lo 0 x v i ∧ ap_lo 0 x v i ≤ 20) ∧ (0 ≤ ap_hi 0 x v i ∧ ap_hi 0 x v i ≤ 20)) ?_ ?_ ?_
    · exact (show (0 ≤ (v : Int) ∧ (v : Int) ≤ 20) ∧ (0 ≤ (v : Int) ∧ (v : Int) ≤ 20) by omega)
    · exact (show ((0 : Int) ≤ 0 ∧ (0 : Int) ≤ 20) ∧ ((0 : Int) ≤ 20 ∧ (20 : Int) ≤ 20) by omega)
    · exact (show ((0 : Int) ≤ 0 ∧ (0 : Int) ≤ 20) ∧ ((0 : Int) ≤ 20 ∧ (20 : Int) ≤ 20) by omega)
  have hbd : ap_bd pn cn ((bn : Int) - pn * v) (0 - (v : Int)) ((v : Int) - v) (20 - 0) (20 - 0) ((cn : Int) * v - 0) (-(v : Int)) (-0) (-0) := ap_bdI hp hc (by omega) (by omega) (by omega) (by omega) (by omega) (by omega) (by omega) (by omega) (by omega)
  have hRW : ap_RW pn bn cn (ap_lo 0 x v) (ap_hi 0 x v) ((bn : Int) - pn * v) (0 - (v : Int)) ((v : Int) - v) (20 - 0) (20 - 0) ((cn : Int) * v - 0) (-(v : Int)) (-0) (-0) := ⟨rfl, rfl, rfl, rfl, rfl, rfl, rfl, rfl, rfl⟩
  have z0 : ((v : Int) - v) * (pn : Int) = 0 := by
    rw [Int.sub_self, Int.zero_mul]
  by_cases e : v = 0
  · subst e
    by_cases y : bn = 0
    · refine ap_BWint (N := bn) (B := pn) hbd hRW lh rfl (Or.inr (Or.inr (Or.inl ⟨⟨by omega, by omega, by omega, by omega, by omega⟩, by omega, by omega, (show (bn : Int) = 0 * pn by omega), rfl, rfl⟩))) (by omega) (by omega) (by omega)
    · refine ap_BWint (N := 0) (B := 1) hbd hRW lh rfl (Or.inr (Or.inl ⟨⟨by omega, by omega, by omega, by omega, by omega⟩, by omega, by omega, by omega, by omega, rfl, rfl⟩)) (by omega) (by omega) (by omega)
  · by_cases y : pn * v = bn
    · refine ap_BWint (N := bn) (B := pn) hbd hRW lh rfl (Or.inr (Or.inr (Or.inr (Or.inr ⟨⟨by omega, by omega, by omega, by omega, by omega⟩, by omega, by omega, by omega, by omega, rfl, rfl⟩)))) (by omega) (by omega) (by rw [← y, Nat.mul_comm])
    · refine ap_BWint (N := v) (B := 1) hbd hRW lh rfl (Or.inr (Or.inr (Or.inr (Or.inl ⟨⟨by omega, by omega, by omega, by omega, by omega⟩, by omega, by omega, by omega, by omega, rfl, rfl⟩)))) (by omega) (by omega) (by omega)
theorem ap_BWv1 {x v : Nat} (h : ap_pbc pn bn cn btn) (hX : ap_X pn bn btn x) (hv : v < x) : ap_BW pn bn cn (ap_lo 1 x v) (ap_hi 1 x v) (-30000000) := by
  obtain ⟨hp, hc, hb, hbt⟩ := h
  obtain ⟨x1, x2, x3⟩ := hX
  have pxI : (pn : Int) * (x : Int) = ((pn * x : Nat) : Int) := by rw [Int.natCast_mul]
  have cx := ap_cz hc x2
  have lh : ap_lh (ap_lo 1 x v) (ap_hi 1 x v) := by
    refine ap_lt3 (P := fun i => (0 ≤ ap_lo 1 x v i ∧ ap_lo 1 x v i ≤ 20) ∧ (0 ≤ ap_hi 1 x v i ∧ ap_hi 1 x v i ≤ 20)) ?_ ?_ ?_
    · exact (show (0 ≤ (x : Int) ∧ (x : Int) ≤ 20) ∧ (0 ≤ (x : Int) ∧ (x : Int) ≤ 20) by omega)
    · exact (show (0 ≤ (v : Int) ∧ (v : Int) ≤ 20) ∧ (0 ≤ (v : Int) ∧ (v : Int) ≤ 20) by omega)
    · exact (show ((0 : Int) ≤ 0 ∧ (0 : Int) ≤ 20) ∧ ((0 : Int) ≤ 20 ∧ (20 : Int) ≤ 20) by omega)
  exact ap_BWno (R0 := (bn : Int) - pn * x) (R1 := (v : Int) - x) (R2 := (x : Int) - x) (R3 := (v : Int) - v) (R4 := 20 - 0) (W0 := (cn : Int) * x - v) (W1 := -(x : Int)) (W2 := -(v : Int)) (W3 := -0) (ap_bdI hp hc (by omega) (by omega) (by omega) (by omega) (by omega) (by omega) (by omega) (by omega) (by omega)) ⟨rfl, rfl, rfl, rfl, rfl, rfl, rfl, rfl, rfl⟩ lh (Or.inr (Or.inl ⟨⟨by omega, by omega, by omega, by omega, by omega⟩, by omega, by omega, by omega, by omega⟩))
theorem ap_BWeq {x : Nat} {l hi : Nat → Int} {e : Int} (h : ap_pbc pn bn cn btn) (hX : ap_X pn bn btn x) (l0 : l 0 = x) (l1 : l 1 = x) (l2 : l 2 = 0) (h0 : hi 0 = x) (h1 : hi 1 = x) (h2 : hi 2 = e) (he : 0 ≤ e ∧ e ≤ 20) : ap_BW pn bn cn l hi (nI ((cn - 1) * x)) := by
  obtain ⟨hp, hc, hb, hbt⟩ := h
  obtain ⟨x1, x2, x3⟩ := hX
  have pxI : (pn : Int) * (x : Int) = ((pn * x : Nat) : Int) := by rw [Int.natCast_mul]
  have cx := ap_cz hc x2
  have lh : ap_lh l hi := by
    refine ap_lt3 (P := fun i => (0 ≤ l i ∧ l i ≤ 20) ∧ (0 ≤ hi i ∧ hi i ≤ 20)) ?_ ?_ ?_
    · rw [l0, h0]
      omega
    · rw [l1, h1]
      omega
    · rw [l2, h2]
      omega
  have hbd : ap_bd pn cn ((bn : Int) - pn * x) 0 0 0 e ((cn : Int) * x - x) (-(x : Int)) (-(x : Int)) 0 := ap_bdI hp hc (by omega) (by omega) (by omega) (by omega) (by omega) (by omega) (by omega) (by omega) (by omega)
  have hRW : ap_RW pn bn cn l hi ((bn : Int) - pn * x) 0 0 0 e ((cn : Int) * x - x) (-(x : Int)) (-(x : Int)) 0 := by
    refine ⟨by rw [l0], by rw [l0, l1]; omega, by rw [l0, h0]; omega, by rw [l1, h1]; omega, by rw [l2, h2]; omega, by rw [l0, l1], by rw [l0], by rw [l1], by rw [l2]; rfl⟩
  by_cases y : pn * x = bn
  · refine ap_BWint (N := bn) (B := pn) hbd hRW lh l2 (Or.inr (Or.inr (Or.inl ⟨⟨by omega, by omega, by omega, by omega, by omega⟩, by omega, by omega, ?_, rfl, rfl⟩))) (by omega) (by omega) (by rw [← y, Nat.mul_comm])
    rw [l1, Int.mul_comm, pxI, y]
  · refine ap_BWint (N := x) (B := 1) hbd hRW lh l2 (Or.inr (Or.inl ⟨⟨by omega, by omega, by omega, by omega, by omega⟩, by omega, by omega, by omega, by omega, h0.symm, rfl⟩)) (by omega) (by omega) (by omega)
theorem ap_wp33 {post : Int32 → St2 → Prop} {J24 : Int32 → Int32 → Int32 → Int32 → ap_JS} {s : St2} {st x y code : Nat} {gl x3 : Int32} (hst : st ≤ 2) (hcode : code = ap_code x st) (hx : x ≤ 20) (hy : y ≤ 20) (hc : 2 ≤ (cn : Int) ∧ (cn : Int) ≤ 5)
    (hbw : ∀ v, v < y → ∃ r, r ≠ gl ∧ ap_BW pn bn cn (ap_lo st x v) (ap_hi st x v) r) (hby : y < 20 → ap_BW pn bn cn (ap_lo st x y) (ap_hi st x y) gl) (hs : ap_Ks pn bn cn s)
    (H : ∀ s', ap_Ks pn bn cn s' → match s' with | (f0_present, f0_without, f0_rows, f0_turned, f0_unit, f0_columns, f0_firstWorth, f0_worthCount, f0_worthTop, f0_worthBottom, f0_lines, f0_empty, f0_hasHigh, f0_highTop, f0_highBottom, f0_hasLow, f0_lowTop, f0_lowBottom, f0_branches, f0_leastThird, f0_greatestThird, a1, a2, a3, a4, a5, a6, a7, a8, a9, a10, a11, a12, a13, a14, a15, a16, a17, a18, a19) => wX_wholePoint_61 post J24 gl (nI code) x3 (nI st) (nI st) (nI y) f0_present f0_without f0_rows f0_turned f0_unit f0_columns f0_firstWorth f0_worthCount f0_worthTop f0_worthBottom f0_lines f0_empty f0_hasHigh f0_highTop f0_highBottom f0_hasLow f0_lowTop f0_lowBottom f0_branches f0_leastThird f0_greatestThird a1 a2 a3 a4 a5 a6 a7 a8 a9 a10 a11 a12 a13 a14 a15 a16 a17 a18 a19) :
    ∃ n, match s with | (f0_present, f0_without, f0_rows, f0_turned, f0_unit, f0_columns, f0_firstWorth, f0_worthCount, f0_worthTop, f0_worthBottom, f0_lines, f0_empty, f0_hasHigh, f0_highTop, f0_highBottom, f0_hasLow, f0_lowTop, f0_lowBottom, f0_branches, f0_leastThird, f0_greatestThird, a1, a2, a3, a4, a5, a6, a7, a8, a9, a10, a11, a12, a13, a14, a15, a16, a17, a18, a19) => wX_wholePoint_33 post J24 gl (nI code) x3 (nI st) (nI st) n 0 f0_present f0_without f0_rows f0_turned f0_unit f0_columns f0_firstWorth f0_worthCount f0_worthTop f0_worthBottom f0_lines f0_empty f0_hasHigh f0_highTop f0_highBottom f0_hasLow f0_lowTop f0_lowBottom f0_branches f0_leastThird f0_greatestThird a1 a2 a3 a4 a5 a6 a7 a8 a9 a10 a11 a12 a13 a14 a15 a16 a17 a18 a19 := by
  refine pk_loop (σ := St2) (fun n i s => match s with | (f0_present, f0_without, f0_rows, f0_turned, f0_unit, f0_columns, f0_firstWorth, f0_worthCount, f0_worthTop, f0_worthBottom, f0_lines, f0_empty, f0_hasHigh, f0_highTop, f0_highBottom, f0_hasLow, f0_lowTop, f0_lowBottom, f0_branches, f0_leastThird, f0_greatestThird, a1, a2, a3, a4, a5, a6, a7, a8, a9, a10, a11, a12, a13, a14, a15, a16, a17, a18, a19) => wX_wholePoint_33 post J24 gl (nI code) x3 (nI st) (nI st) n (nI i) f0_present f0_without f0_rows f0_turned f0_unit f0_columns f0_firstWorth f0_worthCount f0_worthTop f0_worthBottom f0_lines f0_empty f0_hasHigh f0_highTop f0_highBottom f0_hasLow f0_lowTop f0_lowBottom f0_branches f0_leastThird f0_greatestThird a1 a2 a3 a4 a5 a6 a7 a8 a9 a10 a11 a12 a13 a14 a15 a16 a17 a18 a19) (fun _ s => ap_Ks pn bn cn s) y 0 s (by omega) hs ?_ ?_
  · rintro n ⟨f0_present, f0_without, f0_rows, f0_turned, f0_unit, f0_columns, f0_firstWorth, f0_worthCount, f0_worthTop, f0_worthBottom, f0_lines, f0_empty, f0_hasHigh, f0_highTop, f0_highBottom, f0_hasLow, f0_lowTop, f0_lowBottom, f0_branches, f0_leastThird, f0_greatestThird, a1, a2, a3, a4, a5, a6, a7, a8, a9, a10, a11, a12, a13, a14, a15, a16, a17, a18, a19⟩ h
    refine pk_le 20 y (fun _ => H _ h) (fun z => ?_)
    refine ap_bestWith hst hcode hx (by omega) hc h (hby z) (fun s' k => ?_)
    obtain ⟨f0_present, f0_without, f0_rows, f0_turned, f0_unit, f0_columns, f0_firstWorth, f0_worthCount, f0_worthTop, f0_worthBottom, f0_lines, f0_empty, f0_hasHigh, f0_highTop, f0_highBottom, f0_hasLow, f0_lowTop, f0_lowBottom, f0_branches, f0_leastThird, f0_greatestThird, a1, a2, a3, a4, a5, a6, a7, a8, a9, a10, a11, a12, a13, a14, a15, a16, a17, a18, a19⟩ := s'
    exact br_t rfl (H _ k)
  · rintro n i ⟨f0_present, f0_without, f0_rows, f0_turned, f0_unit, f0_columns, f0_firstWorth, f0_worthCount, f0_worthTop, f0_worthBottom, f0_lines, f0_empty, f0_hasHigh, f0_highTop, f0_highBottom, f0_hasLow, f0_lowTop, f0_lowBottom, f0_branches, f0_leastThird, f0_greatestThird, a1, a2, a3, a4, a5, a6, a7, a8, a9, a10, a11, a12, a13, a14, a15, a16, a17, a18, a19⟩ hi h hw
    refine pk_le 20 i (fun z => absurd z (by omega)) (fun _ => ?_)
    obtain ⟨r, hr, hb⟩ := hbw i hi
    refine ap_bestWith hst hcode hx (by omega) hc h hb (fun s' k => ?_)
    obtain ⟨f0_present, f0_without, f0_rows, f0_turned, f0_unit, f0_columns, f0_firstWorth, f0_worthCount, f0_worthTop, f0_worthBottom, f0_lines, f0_empty, f0_hasHigh, f0_highTop, f0_highBottom, f0_hasLow, f0_lowTop, f0_lowBottom, f0_branches, f0_leastThird, f0_greatestThird, a1, a2, a3, a4, a5, a6, a7, a8, a9, a10, a11, a12, a13, a14, a15, a16, a17, a18, a19⟩ := s'
    exact br_f hr (nm_r (nI_1 i) (hw _ k))
theorem ap_ne30 {z : Nat} (h : z ≤ 1000) : ¬ nI z = -30000000 := by
  rw [ap_nI, show (-30000000 : Int32) = ap_I (-30000000) from rfl, ap_Ieq ⟨by omega, by omega⟩ ⟨by omega, by omega⟩]
  omega
theorem ap_wholePoint {post : Int32 → St2 → Prop} {s : St2} (h : ap_pbc pn bn cn btn) (hs : ap_Ks pn bn cn s) (H : ∀ s', ap_Ks pn bn cn s' → post (nI (22 * (btn / pn))) s') : wpX_wholePoint post s := by
  have hc := h.2.1
  have hX := ap_Xok h
  generalize hx : btn / pn = x at *
  obtain ⟨x1, x2, _⟩ := id hX
  have hg : (cn - 1) * x ≤ 4 * 20 := Nat.mul_le_mul (by omega) x2
  obtain ⟨f0_present, f0_without, f0_rows, f0_turned, f0_unit, f0_columns, f0_firstWorth, f0_worthCount, f0_worthTop, f0_worthBottom, f0_lines, f0_empty, f0_hasHigh, f0_highTop, f0_highBottom, f0_hasLow, f0_lowTop, f0_lowBottom, f0_branches, f0_leastThird, f0_greatestThird, a1, a2, a3, a4, a5, a6, a7, a8, a9, a10, a11, a12, a13, a14, a15, a16, a17, a18, a19⟩ := s
  unfold wpX_wholePoint
  refine ap_whole h hs (fun s' k => ?_)
  rw [hx]
  obtain ⟨f0_present, f0_without, f0_rows, f0_turned, f0_unit, f0_columns, f0_firstWorth, f0_worthCount, f0_worthTop, f0_worthBottom, f0_lines, f0_empty, f0_hasHigh, f0_highTop, f0_highBottom, f0_hasLow, f0_lowTop, f0_lowBottom, f0_branches, f0_leastThird, f0_greatestThird, a1, a2, a3, a4, a5, a6, a7, a8, a9, a10, a11, a12, a13, a14, a15, a16, a17, a18, a19⟩ := s'
  refine br_f (ap_ne30 (by omega)) ⟨3 + 1, ?_⟩
  refine pk_le 3 0 (fun z => absurd z (by omega)) (fun _ => ?_)
  refine ap_wp33 (st := 0) (x := x) (y := x) (code := 0) (s := (f0_present, f0_without, f0_rows, f0_turned, f0_unit, f0_columns, f0_firstWorth, f0_worthCount, f0_worthTop, f0_worthBottom, f0_lines, f0_empty, f0_hasHigh, f0_highTop, f0_highBottom, f0_hasLow, f0_lowTop, f0_lowBottom, f0_branches, f0_leastThird, f0_greatestThird, a1, a2, a3, a4, a5, a6, a7, a8, a9, a10, a11, a12, a13, a14, a15, a16, a17, a18, a19)) (by omega) rfl x2 x2 hc (fun v hv => ⟨nI ((cn - 1) * v), ?_, ap_BWv0 h hX (by omega)⟩) (fun _ => ap_BWv0 h hX (Nat.le_refl x)) k (fun s' k => ?_)
  · have h1 : (cn - 1) * v < (cn - 1) * x := Nat.mul_lt_mul_of_pos_left hv (by omega)
    intro q
    have := (nI_eq (by omega) (by omega)).mp q
    omega
  obtain ⟨f0_present, f0_without, f0_rows, f0_turned, f0_unit, f0_columns, f0_firstWorth, f0_worthCount, f0_worthTop, f0_worthBottom, f0_lines, f0_empty, f0_hasHigh, f0_highTop, f0_highBottom, f0_hasLow, f0_lowTop, f0_lowBottom, f0_branches, f0_leastThird, f0_greatestThird, a1, a2, a3, a4, a5, a6, a7, a8, a9, a10, a11, a12, a13, a14, a15, a16, a17, a18, a19⟩ := s'
  refine nm_r (e' := nI x) (show nI 0 + 1 * nI x = nI x from by rw [show (1 : Int32) * nI x = nI (1 * x) from pk_mul 1 x, nI_add, Nat.one_mul, Nat.zero_add]) (nm_r (e' := nI 21) (by decide) (nm_r (nI_1 0) (nm_r (nI_1 0) ?_)))
  refine pk_le 3 1 (fun z => absurd z (by omega)) (fun _ => ?_)
  refine ap_wp33 (st := 1) (x := x) (y := x) (code := x) (s := (f0_present, f0_without, f0_rows, f0_turned, f0_unit, f0_columns, f0_firstWorth, f0_worthCount, f0_worthTop, f0_worthBottom, f0_lines, f0_empty, f0_hasHigh, f0_highTop, f0_highBottom, f0_hasLow, f0_lowTop, f0_lowBottom, f0_branches, f0_leastThird, f0_greatestThird, a1, a2, a3, a4, a5, a6, a7, a8, a9, a10, a11, a12, a13, a14, a15, a16, a17, a18, a19)) (by omega) (show x = x + 21 * 0 by omega) x2 x2 hc (fun v hv => ⟨-30000000, fun q => ap_ne30 (by omega) q.symm, ap_BWv1 h hX hv⟩) (fun _ => ap_BWeq h hX rfl rfl rfl rfl rfl rfl (show (0 : Int) ≤ 20 ∧ (20 : Int) ≤ 20 by omega)) k (fun s' k => ?_)
  obtain ⟨f0_present, f0_without, f0_rows, f0_turned, f0_unit, f0_columns, f0_firstWorth, f0_worthCount, f0_worthTop, f0_worthBottom, f0_lines, f0_empty, f0_hasHigh, f0_highTop, f0_highBottom, f0_hasLow, f0_lowTop, f0_lowBottom, f0_branches, f0_leastThird, f0_greatestThird, a1, a2, a3, a4, a5, a6, a7, a8, a9, a10, a11, a12, a13, a14, a15, a16, a17, a18, a19⟩ := s'
  refine nm_r (e' := nI (22 * x)) (by rw [pk_mul, nI_add, show x + 21 * x = 22 * x by omega]) (nm_r (e' := nI 441) (by decide) (nm_r (nI_1 1) (nm_r (nI_1 1) ?_)))
  refine pk_le 3 2 (fun z => absurd z (by omega)) (fun _ => ?_)
  refine ap_wp33 (st := 2) (x := x) (y := 0) (code := 22 * x) (s := (f0_present, f0_without, f0_rows, f0_turned, f0_unit, f0_columns, f0_firstWorth, f0_worthCount, f0_worthTop, f0_worthBottom, f0_lines, f0_empty, f0_hasHigh, f0_highTop, f0_highBottom, f0_hasLow, f0_lowTop, f0_lowBottom, f0_branches, f0_leastThird, f0_greatestThird, a1, a2, a3, a4, a5, a6, a7, a8, a9, a10, a11, a12, a13, a14, a15, a16, a17, a18, a19)) (by omega) (show 22 * x = x + 21 * (x + 21 * 0) by omega) x2 (by omega) hc (fun v hv => absurd hv (by omega)) (fun _ => ap_BWeq h hX rfl rfl rfl rfl rfl rfl (show (0 : Int) ≤ 0 ∧ (0 : Int) ≤ 20 by omega)) k (fun s' k => ?_)
  obtain ⟨f0_present, f0_without, f0_rows, f0_turned, f0_unit, f0_columns, f0_firstWorth, f0_worthCount, f0_worthTop, f0_worthBottom, f0_lines, f0_empty, f0_hasHigh, f0_highTop, f0_highBottom, f0_hasLow, f0_lowTop, f0_lowBottom, f0_branches, f0_leastThird, f0_greatestThird, a1, a2, a3, a4, a5, a6, a7, a8, a9, a10, a11, a12, a13, a14, a15, a16, a17, a18, a19⟩ := s'
  refine nm_r (e' := nI (22 * x)) (by rw [pk_mul, nI_add, show 22 * x + 441 * 0 = 22 * x by omega]) (nm_e (nm_r (nI_1 2) (nm_r (nI_1 2) ?_)))
  exact pk_le 3 3 (fun _ => H _ k) (fun z => absurd z (by omega))
end
end
section
section
variable {f0_present : Int32}
variable {f0_without : Int32}
variable {f0_rows : Int32}
variable {f0_turned : Int32}
variable {f0_unit : Int64}
variable {f0_columns : Int32}
variable {f0_firstWorth : Int32}
variable {f0_worthCount : Int32}
variable {f0_worthTop : Int64}
variable {f0_worthBottom : Int64}
variable {f0_lines : Int32}
variable {f0_empty : Int32}
variable {f0_hasHigh : Int32}
variable {f0_highTop : Int64}
variable {f0_highBottom : Int64}
variable {f0_hasLow : Int32}
variable {f0_lowTop : Int64}
variable {f0_lowBottom : Int64}
variable {f0_branches : Int32}
variable {f0_leastThird : Int32}
variable {f0_greatestThird : Int32}
variable {a1 : Nat → Int32}
variable {a2 : Nat → Int32}
variable {a3 : Nat → Int32}
variable {a4 : Nat → Int32}
variable {a5 : Nat → Int32}
variable {a6 : Nat → Int32}
variable {a7 : Nat → Int32}
variable {a8 : Nat → Int32}
variable {a9 : Nat → Int32}
variable {a10 : Nat → Int64}
variable {a11 : Nat → Int32}
variable {a12 : Nat → Int32}
variable {a13 : Nat → Int64}
variable {a14 : Nat → Int64}
variable {a15 : Nat → Int64}
variable {a16 : Nat → Int64}
variable {a17 : Nat → Int64}
variable {a18 : Nat → Int32}
variable {a19 : Nat → Int32}
/-- a number as written -/
def ap_num (w i : Nat) : Int := ((([w, w / 15, w / 225].getD i 0) % 15 : Nat) : Int) - 7
theorem ap_numb (w i : Nat) : -7 ≤ ap_num w i ∧ ap_num w i ≤ 7 := by
  unfold ap_num
  omega
theorem ap_numberOf {post : Int32 → Prop} {w i : Nat} (hw : w < 3375) (hi : i < 3) (H : post (ap_I (ap_num w i))) : wpX_numberOf post () (nI w) (nI i) := by
  have fin : ∀ u : Nat, u < 3375 → u = [w, w / 15, w / 225].getD i 0 → post (nI u - nI u / 15 * 15 - 7) := by
    intro u hu e
    have er : nI u - nI u / 15 * 15 = nI (u % 15) := pk_rem (a := u) (d := 15) (by omega) (by omega) (by omega)
    have h7 : nI (u % 15) - 7 = ap_I (((u % 15 : Nat) : Int) - 7) := by
      rw [ap_nI, show (7 : Int32) = ap_I 7 from rfl, ap_Isub]
    rw [er, h7]
    unfold ap_num at H
    rw [← e] at H
    exact H
  have d15 : nI w / 15 = nI (w / 15) := pk_div (a := w) (d := 15) (by omega) (by omega) (by omega)
  have d225 : nI w / 225 = nI (w / 225) := pk_div (a := w) (d := 225) (by omega) (by omega) (by omega)
  match i, hi with
  | 0, _ => exact br_t rfl ⟨by decide, fin w hw rfl⟩
  | 1, _ => exact br_f (by decide) (br_t rfl ⟨by decide, nm_r d15 ⟨by decide, fin (w / 15) (by omega) rfl⟩⟩)
  | 2, _ => exact br_f (by decide) (br_f (by decide) ⟨by decide, nm_r d225 ⟨by decide, fin (w / 225) (by omega) rfl⟩⟩)
  | n + 3, q => exact absurd q (by omega)
theorem ap_add87 {post : Int32 → St2 → Prop} {w k : Nat} (hw : w < 3375) (hk : k < 5) (H : ∀ a1' : Nat → Int32, (∀ i, i < 3 → a1' (k * 3 + i) = ap_I (ap_num w i)) → (∀ j, j < k * 3 → a1' j = a1 j) → post (nI k) (f0_present, f0_without, f0_rows, f0_turned, f0_unit, f0_columns, f0_firstWorth, f0_worthCount, f0_worthTop, f0_worthBottom, f0_lines, f0_empty, f0_hasHigh, f0_highTop, f0_highBottom, f0_hasLow, f0_lowTop, f0_lowBottom, f0_branches, f0_leastThird, f0_greatestThird, a1', a2, a3, a4, a5, a6, a7, a8, a9, a10, a11, a12, a13, a14, a15, a16, a17, a18, a19)) :
    ∃ n, wX_add_87 post (nI w) (nI k) f0_present f0_without f0_rows f0_turned f0_unit f0_columns f0_firstWorth f0_worthCount f0_worthTop f0_worthBottom f0_lines f0_empty f0_hasHigh f0_highTop f0_highBottom f0_hasLow f0_lowTop f0_lowBottom f0_branches f0_leastThird f0_greatestThird n 0 a1 a2 a3 a4 a5 a6 a7 a8 a9 a10 a11 a12 a13 a14 a15 a16 a17 a18 a19 := by
  refine pk_loop (σ := Nat → Int32) (fun n i s => wX_add_87 post (nI w) (nI k) f0_present f0_without f0_rows f0_turned f0_unit f0_columns f0_firstWorth f0_worthCount f0_worthTop f0_worthBottom f0_lines f0_empty f0_hasHigh f0_highTop f0_highBottom f0_hasLow f0_lowTop f0_lowBottom f0_branches f0_leastThird f0_greatestThird n (nI i) s a2 a3 a4 a5 a6 a7 a8 a9 a10 a11 a12 a13 a14 a15 a16 a17 a18 a19) (fun m s => (∀ i, i < m → s (k * 3 + i) = ap_I (ap_num w i)) ∧ (∀ j, j < k * 3 → s j = a1 j)) 3 0 a1 (by omega) ⟨fun i hi => absurd hi (by omega), fun _ _ => rfl⟩ ?_ ?_
  · rintro n s ⟨q1, q2⟩
    exact pk_le 3 3 (fun _ => H s q1 q2) (fun z => absurd z (by omega))
  · rintro n i s hi ⟨q1, q2⟩ hv
    have ei : nI k * 3 + nI i = nI (k * 3 + i) := ap_ix 3 k i
    obtain ⟨n1, n2⟩ := ap_numb w i
    refine pk_le 3 i (fun z => absurd z (by omega)) (fun _ => ?_)
    refine ap_numberOf hw hi ?_
    refine ⟨pk_in (k * 3 + i) 15 (by omega) ei, ?_⟩
    rw [pk_cl (k * 3 + i) ei, ap_byte (by omega) (by omega)]
    refine nm_e (nm_r (nI_1 i) (hv _ ⟨fun j hj => ?_, fun j hj => ?_⟩))
    · by_cases z : j = i
      · rw [z, pk_us]
      · rw [pk_un (by omega), q1 j (by omega)]
    · rw [pk_un (by omega), q2 j hj]
theorem ap_has0 {post : Int32 → Prop} (eP : f0_present = 0) (H : post 0) : wpX_has post (f0_present, f0_without, f0_rows, f0_turned, f0_unit, f0_columns, f0_firstWorth, f0_worthCount, f0_worthTop, f0_worthBottom, f0_lines, f0_empty, f0_hasHigh, f0_highTop, f0_highBottom, f0_hasLow, f0_lowTop, f0_lowBottom, f0_branches, f0_leastThird, f0_greatestThird, a1, a2, a3, a4, a5, a6, a7, a8, a9, a10, a11, a12, a13, a14, a15, a16, a17, a18, a19) 0 := by
  subst eP
  exact br_f (by decide) (br_f (by decide) (br_t (by decide) H))
theorem ap_has1 {post : Int32 → Prop} {k : Nat} (hk : k < 2) (eP : f0_present = 1) (H0 : k = 0 → post 1) (H1 : k = 1 → post 0) : wpX_has post (f0_present, f0_without, f0_rows, f0_turned, f0_unit, f0_columns, f0_firstWorth, f0_worthCount, f0_worthTop, f0_worthBottom, f0_lines, f0_empty, f0_hasHigh, f0_highTop, f0_highBottom, f0_hasLow, f0_lowTop, f0_lowBottom, f0_branches, f0_leastThird, f0_greatestThird, a1, a2, a3, a4, a5, a6, a7, a8, a9, a10, a11, a12, a13, a14, a15, a16, a17, a18, a19) (nI k) := by
  subst eP
  match k, hk with
  | 0, _ => exact br_f (by decide) (br_f (by decide) (br_f (by decide) (H0 rfl)))
  | 1, _ => exact br_f (by decide) (br_f (by decide) (br_t (by decide) (H1 rfl)))
  | n + 2, q => exact absurd q (by omega)
theorem ap_addA {post : Int32 → St2 → Prop} {w b : Nat} (hw : w < 3375) (hb : b ≤ 99) (eP : f0_present = 0)
    (H : ∀ a1' : Nat → Int32, (∀ i, i < 3 → a1' (0 * 3 + i) = ap_I (ap_num w i)) → post (nI 0) (1, f0_without, f0_rows, f0_turned, f0_unit, f0_columns, f0_firstWorth, f0_worthCount, f0_worthTop, f0_worthBottom, f0_lines, f0_empty, f0_hasHigh, f0_highTop, f0_highBottom, f0_hasLow, f0_lowTop, f0_lowBottom, f0_branches, f0_leastThird, f0_greatestThird, a1', (upd a2 0 0), (upd a3 0 (nI b)), a4, a5, a6, a7, a8, a9, a10, a11, a12, a13, a14, a15, a16, a17, a18, a19)) : wpX_add post (f0_present, f0_without, f0_rows, f0_turned, f0_unit, f0_columns, f0_firstWorth, f0_worthCount, f0_worthTop, f0_worthBottom, f0_lines, f0_empty, f0_hasHigh, f0_highTop, f0_highBottom, f0_hasLow, f0_lowTop, f0_lowBottom, f0_branches, f0_leastThird, f0_greatestThird, a1, a2, a3, a4, a5, a6, a7, a8, a9, a10, a11, a12, a13, a14, a15, a16, a17, a18, a19) (nI w) 0 (nI b) := by
  refine br_f (nI_pos (by omega)) (br_f (nI_ge (b := 3375) hw (by decide)) (br_f (by decide) (br_f (by decide) (br_f ?_ (br_t (nI_le (b := 99) hb (by decide)) ⟨1, ?_⟩)))))
  · rw [ap_nI, show (-99 : Int32) = ap_I (-99) from rfl, ap_Ilt ⟨by omega, by omega⟩ ⟨by omega, by omega⟩]
    omega
  refine br_f (by decide) ?_
  refine ap_has0 eP ?_
  refine br_t rfl (nm_r (e' := 1) (by rw [eP]; decide) ⟨pk_in 0 5 (by omega), ?_⟩)
  rw [pk_cl (x := (0 : Int32)) 0]
  refine nm_r (e' := upd a2 0 0) (by rw [show (0 : Int32).toInt8.toInt32 = 0 by decide]) ⟨pk_in 0 5 (by omega), nm_r (e' := upd a3 0 (nI b)) (by rw [ap_byteN (by omega)]) ?_⟩
  exact ap_add87 (k := 0) hw (by omega) (fun a1' h1 _ => H a1' h1)
theorem ap_addB {post : Int32 → St2 → Prop} {w : Nat} (hw : w < 3375) (eP : f0_present = 1)
    (H : ∀ a1' : Nat → Int32, (∀ i, i < 3 → a1' (1 * 3 + i) = ap_I (ap_num w i)) → (∀ j, j < 1 * 3 → a1' j = a1 j) → post (nI 1) (3, f0_without, f0_rows, f0_turned, f0_unit, f0_columns, f0_firstWorth, f0_worthCount, f0_worthTop, f0_worthBottom, f0_lines, f0_empty, f0_hasHigh, f0_highTop, f0_highBottom, f0_hasLow, f0_lowTop, f0_lowBottom, f0_branches, f0_leastThird, f0_greatestThird, a1', (upd a2 1 0), (upd a3 1 0), a4, a5, a6, a7, a8, a9, a10, a11, a12, a13, a14, a15, a16, a17, a18, a19)) : wpX_add post (f0_present, f0_without, f0_rows, f0_turned, f0_unit, f0_columns, f0_firstWorth, f0_worthCount, f0_worthTop, f0_worthBottom, f0_lines, f0_empty, f0_hasHigh, f0_highTop, f0_highBottom, f0_hasLow, f0_lowTop, f0_lowBottom, f0_branches, f0_leastThird, f0_greatestThird, a1, a2, a3, a4, a5, a6, a7, a8, a9, a10, a11, a12, a13, a14, a15, a16, a17, a18, a19) (nI w) 0 0 := by
  refine br_f (nI_pos (by omega)) (br_f (nI_ge (b := 3375) hw (by decide)) (br_f (by decide) (br_f (by decide) (br_f (by decide) (br_t (by decide) ⟨2, ?_⟩)))))
  refine br_f (by decide) ?_
  refine ap_has1 (k := 0) (by omega) eP (fun _ => ?_) (fun z => absurd z (by omega))
  refine br_f (by decide) (nm_r (nI_1 0) ?_)
  refine br_f (by decide) ?_
  refine ap_has1 (k := 1) (by omega) eP (fun z => absurd z (by omega)) (fun _ => ?_)
  refine br_t rfl (nm_r (e' := 3) (by rw [eP]; decide) ⟨pk_in 1 5 (by omega), ?_⟩)
  rw [pk_cl (x := nI (0 + 1)) 1]
  refine nm_r (e' := upd a2 1 0) (by rw [show (0 : Int32).toInt8.toInt32 = 0 by decide]) ⟨pk_in 1 5 (by omega), nm_r (e' := upd a3 1 0) (by rw [show (0 : Int32).toInt8.toInt32 = 0 by decide]) ?_⟩
  exact ap_add87 (k := 1) hw (by omega) H
theorem ap_goal {post : Int32 → St2 → Prop} {w : Nat} (hw : w < 3375) (H : ∀ a4' : Nat → Int32, (∀ i, i < 3 → a4' i = ap_I (ap_num w i)) → post 1 (f0_present, f0_without, f0_rows, f0_turned, f0_unit, f0_columns, f0_firstWorth, f0_worthCount, f0_worthTop, f0_worthBottom, f0_lines, f0_empty, f0_hasHigh, f0_highTop, f0_highBottom, f0_hasLow, f0_lowTop, f0_lowBottom, f0_branches, f0_leastThird, f0_greatestThird, a1, a2, a3, a4', a5, a6, a7, a8, a9, a10, a11, a12, a13, a14, a15, a16, a17, a18, a19)) : wpX_goal post (f0_present, f0_without, f0_rows, f0_turned, f0_unit, f0_columns, f0_firstWorth, f0_worthCount, f0_worthTop, f0_worthBottom, f0_lines, f0_empty, f0_hasHigh, f0_highTop, f0_highBottom, f0_hasLow, f0_lowTop, f0_lowBottom, f0_branches, f0_leastThird, f0_greatestThird, a1, a2, a3, a4, a5, a6, a7, a8, a9, a10, a11, a12, a13, a14, a15, a16, a17, a18, a19) (nI w) := by
  refine br_f (nI_pos (by omega)) (br_t (nI_lt (b := 3375) hw (by decide)) ?_)
  refine pk_loop (σ := Nat → Int32) (fun n i s => wX_goal_15 post (nI w) f0_present f0_without f0_rows f0_turned f0_unit f0_columns f0_firstWorth f0_worthCount f0_worthTop f0_worthBottom f0_lines f0_empty f0_hasHigh f0_highTop f0_highBottom f0_hasLow f0_lowTop f0_lowBottom f0_branches f0_leastThird f0_greatestThird n (nI i) a1 a2 a3 s a5 a6 a7 a8 a9 a10 a11 a12 a13 a14 a15 a16 a17 a18 a19) (fun m s => ∀ i, i < m → s i = ap_I (ap_num w i)) 3 0 a4 (by omega) (fun i hi => absurd hi (by omega)) ?_ ?_
  · intro n s q1
    exact pk_le 3 3 (fun _ => H s q1) (fun z => absurd z (by omega))
  · intro n i s hi q1 hv
    obtain ⟨n1, n2⟩ := ap_numb w i
    refine pk_le 3 i (fun z => absurd z (by omega)) (fun _ => ?_)
    refine ap_numberOf hw hi ?_
    refine ⟨pk_in i 3 hi, ?_⟩
    rw [pk_cl (x := nI i) i, ap_byte (by omega) (by omega)]
    refine nm_e (nm_r (nI_1 i) (hv _ (fun j hj => ?_)))
    by_cases z : j = i
    · rw [z, pk_us]
    · rw [pk_un z, q1 j (by omega)]
theorem ap_cellAt {post : Int32 → Prop} {L k : Nat} {xs : Nat → Int32} (hL : L ≤ 4) (hk : k < 4) (H : ∀ r, post r) : wpL_cellAt post L xs () (nI k) :=
  pk_le L k (fun _ => H 0) (fun z => ⟨pk_in k L z, H _⟩)
/-- the plain law about the two reduced fractions -/
theorem ap_gcdE {N p : Nat} : N / Nat.gcd N p * p = N * (p / Nat.gcd N p) := by
  obtain ⟨t, ht⟩ := Nat.gcd_dvd_left N p
  obtain ⟨q, hq⟩ := Nat.gcd_dvd_right N p
  rcases Nat.eq_zero_or_pos (Nat.gcd N p) with z | z
  · rw [z] at ht hq
    rw [z]
    simp
  · generalize Nat.gcd N p = g at *
    rw [ht, hq, Nat.mul_div_cancel_left t z, Nat.mul_div_cancel_left q z]
    simp only [Nat.mul_comm, Nat.mul_left_comm]
variable {pn bn cn btn : Nat}
theorem ap_law245 {post : Int32 → St0 → Prop} {mc ms kc ks : Nat} {s : St2} {x15 : Int32} (h : ap_pbc pn bn cn btn) (hs : ap_Ks pn bn cn s) (h15 : x15 = nI (btn / pn)) (H : post 1 ()) :
    match s with | (f0_present, f0_without, f0_rows, f0_turned, f0_unit, f0_columns, f0_firstWorth, f0_worthCount, f0_worthTop, f0_worthBottom, f0_lines, f0_empty, f0_hasHigh, f0_highTop, f0_highBottom, f0_hasLow, f0_lowTop, f0_lowBottom, f0_branches, f0_leastThird, f0_greatestThird, a1, a2, a3, a4, a5, a6, a7, a8, a9, a10, a11, a12, a13, a14, a15, a16, a17, a18, a19) => wL_lawOf_245 post mc ms (nI (22 * (btn / pn))) x15 (nI btn) (nI (btn / Nat.gcd btn pn) * nI pn) kc ks f0_present f0_without f0_rows f0_turned f0_unit f0_columns f0_firstWorth f0_worthCount f0_worthTop f0_worthBottom f0_lines f0_empty f0_hasHigh f0_highTop f0_highBottom f0_hasLow f0_lowTop f0_lowBottom f0_branches f0_leastThird f0_greatestThird a1 a2 a3 a4 a5 a6 a7 a8 a9 a10 a11 a12 a13 a14 a15 a16 a17 a18 a19 := by
  subst h15
  obtain ⟨f0_present, f0_without, f0_rows, f0_turned, f0_unit, f0_columns, f0_firstWorth, f0_worthCount, f0_worthTop, f0_worthBottom, f0_lines, f0_empty, f0_hasHigh, f0_highTop, f0_highBottom, f0_hasLow, f0_lowTop, f0_lowBottom, f0_branches, f0_leastThird, f0_greatestThird, a1, a2, a3, a4, a5, a6, a7, a8, a9, a10, a11, a12, a13, a14, a15, a16, a17, a18, a19⟩ := s
  refine (show wL_lawOf_245 post mc ms (nI (22 * (btn / pn))) (nI (btn / pn)) (nI btn) (nI (btn / Nat.gcd btn pn) * nI pn) kc ks f0_present f0_without f0_rows f0_turned f0_unit f0_columns f0_firstWorth f0_worthCount f0_worthTop f0_worthBottom f0_lines f0_empty f0_hasHigh f0_highTop f0_highBottom f0_hasLow f0_lowTop f0_lowBottom f0_branches f0_leastThird f0_greatestThird a1 a2 a3 a4 a5 a6 a7 a8 a9 a10 a11 a12 a13 a14 a15 a16 a17 a18 a19 from ?_)
  unfold wL_lawOf_245
  refine ap_pointBottom h hs (fun s' k => ?_)
  obtain ⟨f0_present, f0_without, f0_rows, f0_turned, f0_unit, f0_columns, f0_firstWorth, f0_worthCount, f0_worthTop, f0_worthBottom, f0_lines, f0_empty, f0_hasHigh, f0_highTop, f0_highBottom, f0_hasLow, f0_lowTop, f0_lowBottom, f0_branches, f0_leastThird, f0_greatestThird, a1, a2, a3, a4, a5, a6, a7, a8, a9, a10, a11, a12, a13, a14, a15, a16, a17, a18, a19⟩ := s'
  refine br_t ?_ (br_t ?_ H)
  · rw [pk_mul, pk_mul, ap_gcdE]
  · exact (pk_mul 22 (btn / pn)).symm
theorem ap_law167 {post : Int32 → St0 → Prop} {mc ms kc ks : Nat} {s : St2} (h : ap_pbc pn bn cn btn) (hs : ap_Ks pn bn cn s) (H : post 1 ()) (cut x15 : Int32) (hcut : (cut = 0 ∧ btn = 20 * pn) ∨ (cut = 1 ∧ btn = bn)) (h15 : x15 = nI (btn / pn)) :
    match s with | (f0_present, f0_without, f0_rows, f0_turned, f0_unit, f0_columns, f0_firstWorth, f0_worthCount, f0_worthTop, f0_worthBottom, f0_lines, f0_empty, f0_hasHigh, f0_highTop, f0_highBottom, f0_hasLow, f0_lowTop, f0_lowBottom, f0_branches, f0_leastThird, f0_greatestThird, a1, a2, a3, a4, a5, a6, a7, a8, a9, a10, a11, a12, a13, a14, a15, a16, a17, a18, a19) => wL_lawOf_167 post mc ms (nI pn) (nI bn) (nI cn) (nI ((cn - 1) * btn / Nat.gcd ((cn - 1) * btn) pn)) (nI (pn / Nat.gcd ((cn - 1) * btn) pn)) (nI ((cn - 1) * (btn / pn))) (nI (btn / Nat.gcd btn pn)) (nI (22 * (btn / pn))) cut x15 kc ks f0_present f0_without f0_rows f0_turned f0_unit f0_columns f0_firstWorth f0_worthCount f0_worthTop f0_worthBottom f0_lines f0_empty f0_hasHigh f0_highTop f0_highBottom f0_hasLow f0_lowTop f0_lowBottom f0_branches f0_leastThird f0_greatestThird a1 a2 a3 a4 a5 a6 a7 a8 a9 a10 a11 a12 a13 a14 a15 a16 a17 a18 a19 := by
  have tl := ap_law245 (mc := mc) (ms := ms) (kc := kc) (ks := ks) h hs h15 H
  subst h15
  obtain ⟨hp, hc, hb, hbt⟩ := h
  obtain ⟨f0_present, f0_without, f0_rows, f0_turned, f0_unit, f0_columns, f0_firstWorth, f0_worthCount, f0_worthTop, f0_worthBottom, f0_lines, f0_empty, f0_hasHigh, f0_highTop, f0_highBottom, f0_hasLow, f0_lowTop, f0_lowBottom, f0_branches, f0_leastThird, f0_greatestThird, a1, a2, a3, a4, a5, a6, a7, a8, a9, a10, a11, a12, a13, a14, a15, a16, a17, a18, a19⟩ := s
  have c1 : nI cn - 1 = nI (cn - 1) := pk_sub (a := cn) (b := 1) (by omega)
  have hW : (cn - 1) * btn ≤ 4 * 140 := Nat.mul_le_mul (by omega) (by omega)
  have g0 : 0 < Nat.gcd ((cn - 1) * btn) pn := Nat.gcd_pos_of_pos_right _ (by omega)
  have gp : Nat.gcd ((cn - 1) * btn) pn ≤ pn := Nat.gcd_le_right _ (by omega)
  have q1 : 1 ≤ pn / Nat.gcd ((cn - 1) * btn) pn := Nat.div_pos gp g0
  have q2 : pn / Nat.gcd ((cn - 1) * btn) pn ≤ pn := Nat.div_le_self _ _
  have mid : ∀ z0 : Int32, z0 = nI btn → wL_lawOf_193 post mc ms (nI pn) (nI bn) (nI cn) (nI (pn / Nat.gcd ((cn - 1) * btn) pn)) (nI ((cn - 1) * (btn / pn))) (nI (btn / Nat.gcd btn pn)) (nI (22 * (btn / pn))) cut (nI (btn / pn)) z0 (nI cn - 1) (nI ((cn - 1) * btn / Nat.gcd ((cn - 1) * btn) pn) * nI pn) kc ks f0_present f0_without f0_rows f0_turned f0_unit f0_columns f0_firstWorth f0_worthCount f0_worthTop f0_worthBottom f0_lines f0_empty f0_hasHigh f0_highTop f0_highBottom f0_hasLow f0_lowTop f0_lowBottom f0_branches f0_leastThird f0_greatestThird a1 a2 a3 a4 a5 a6 a7 a8 a9 a10 a11 a12 a13 a14 a15 a16 a17 a18 a19 := by
    intro z0 e0
    subst e0
    refine br_t ?_ (br_f ?_ (br_f ?_ (br_t ?_ ?_)))
    · rw [c1, pk_mul, pk_mul, pk_mul, ap_gcdE]
    · exact nI_nlt (b := 1) q1 (by omega)
    · exact nI_nlt q2 (by omega)
    · rw [c1, pk_mul]
    · rcases hcut with ⟨y1, y2⟩ | ⟨y1, y2⟩
      · refine br_t y1 ?_
        rw [show (20 : Int32) * nI pn = nI btn from by rw [y2]; exact pk_mul 20 pn]
        exact tl
      · refine br_f (by rw [y1]; decide) ?_
        rw [← y2]
        exact tl
  rcases hcut with ⟨y1, y2⟩ | ⟨y1, y2⟩
  · exact br_t y1 (mid _ (by rw [y2]; exact pk_mul 20 pn))
  · exact br_f (by rw [y1]; decide) (mid _ (by rw [y2]))
theorem ap_lawOf {post : Int32 → St0 → Prop} {p0 p1 p2 p3 : Int32} (H : post 1 ()) : wpL_lawOf post 2310 36944 () p0 p1 p2 p3 := by
  obtain ⟨j0, i0, e0⟩ := pk_andE p0 (m := 65535) 16 (by decide)
  obtain ⟨j1, i1, e1⟩ := pk_andE p1 (m := 65535) 16 (by decide)
  obtain ⟨j2, i2, e2⟩ := pk_andE p2 (m := 3) 2 (by decide)
  obtain ⟨j3, i3, e3⟩ := pk_andE p3 (m := 255) 8 (by decide)
  refine ⟨by omega, by omega, 19, 2661, by omega, by omega, ?_⟩
  refine ⟨by decide, by decide, by decide, by decide, by decide, by decide, by decide, by decide, by decide, by decide, by decide, by decide, by decide, by decide, by decide, by decide, by decide, by decide, by decide, by decide, by decide, by decide, by decide, by decide, by decide, by decide, by decide, by decide, by decide, by decide, by decide, by decide, by decide, by decide, by decide, by decide, by decide, by decide, ?_⟩
  rw [e0, e1, e2, e3]
  have r0 : 1 + (nI j0 - nI j0 / 7 * 7) = nI (1 + j0 % 7) := by
    rw [show nI j0 - nI j0 / 7 * 7 = nI (j0 % 7) from pk_rem (a := j0) (d := 7) (by omega) (by omega) (by omega)]
    exact nI_add 1 (j0 % 7)
  have r1 : nI j1 - nI j1 / 100 * 100 = nI (j1 % 100) := pk_rem (a := j1) (d := 100) (by omega) (by omega) (by omega)
  have r2 : 2 + nI j2 = nI (2 + j2) := nI_add 2 j2
  have r3 : nI j3 - nI j3 / 3 * 3 = nI (j3 % 3) := pk_rem (a := j3) (d := 3) (by omega) (by omega) (by omega)
  refine ⟨by decide, nm_r r0 ⟨by decide, nm_r r1 (nm_r r2 ⟨by decide, nm_r r3 ?_⟩)⟩⟩
  have hpn : 1 ≤ 1 + j0 % 7 ∧ 1 + j0 % 7 ≤ 7 := by omega
  have hbn : j1 % 100 ≤ 99 := by omega
  have hcn : 2 ≤ 2 + j2 ∧ 2 + j2 ≤ 5 := by omega
  have hen : j3 % 3 < 3 := by omega
  generalize 1 + j0 % 7 = pn at *
  generalize j1 % 100 = bn at *
  generalize 2 + j2 = cn at *
  generalize j3 % 3 = en at *
  clear e0 e1 e2 e3 r0 r1 r2 r3
  have f1 : ((nI pn + 7) + 105) + 1575 = nI (((pn + 7) + 105) + 1575) := by
    rw [show nI pn + 7 = nI (pn + 7) from nI_add pn 7, show nI (pn + 7) + 105 = nI (pn + 7 + 105) from nI_add (pn + 7) 105]
    exact nI_add (pn + 7 + 105) 1575
  have f2 : ((nI cn + 7) + 90) + 1575 = nI (((cn + 7) + 90) + 1575) := by
    rw [show nI cn + 7 = nI (cn + 7) from nI_add cn 7, show nI (cn + 7) + 90 = nI (cn + 7 + 90) from nI_add (cn + 7) 90]
    exact nI_add (cn + 7 + 90) 1575
  rw [f1]
  refine ap_addA (by omega) hbn rfl (fun b1 m1 => ?_)
  refine ap_addB (w := 1673) (by omega) rfl (fun c1 m2 m3 => ?_)
  rw [f2]
  refine ap_goal (by omega) (fun b4 m4 => ?_)
  obtain ⟨btn, hbt⟩ : ∃ btn : Nat, (bn ≤ 20 * pn ∧ btn = bn) ∨ (20 * pn ≤ bn ∧ btn = 20 * pn) := by
    rcases Nat.lt_or_ge bn (20 * pn) with q | q
    · exact ⟨bn, Or.inl ⟨by omega, rfl⟩⟩
    · exact ⟨20 * pn, Or.inr ⟨q, rfl⟩⟩
  have h : ap_pbc pn bn cn btn := ⟨by omega, by omega, by omega, by omega⟩
  have n0 : ap_num (pn + 7 + 105 + 1575) 0 = pn := by
    show (((pn + 7 + 105 + 1575) % 15 : Nat) : Int) - 7 = pn
    omega
  have n1 : ap_num (pn + 7 + 105 + 1575) 1 = 0 := by
    show (((pn + 7 + 105 + 1575) / 15 % 15 : Nat) : Int) - 7 = 0
    omega
  have n2 : ap_num (pn + 7 + 105 + 1575) 2 = 0 := by
    show (((pn + 7 + 105 + 1575) / 225 % 15 : Nat) : Int) - 7 = 0
    omega
  have g0 : ap_num (cn + 7 + 90 + 1575) 0 = cn := by
    show (((cn + 7 + 90 + 1575) % 15 : Nat) : Int) - 7 = cn
    omega
  have g1 : ap_num (cn + 7 + 90 + 1575) 1 = -1 := by
    show (((cn + 7 + 90 + 1575) / 15 % 15 : Nat) : Int) - 7 = -1
    omega
  have g2 : ap_num (cn + 7 + 90 + 1575) 2 = 0 := by
    show (((cn + 7 + 90 + 1575) / 225 % 15 : Nat) : Int) - 7 = 0
    omega
  have hK : ap_K pn bn cn 3 c1 (upd (upd (fun _ => 0) 0 0) 1 0) (upd (upd (fun _ => 0) 0 (nI bn)) 1 0) b4 := by
    refine ⟨rfl, ?_, ?_, rfl, rfl, ?_, rfl, ?_⟩
    · refine ap_lt3 (P := fun i => c1 (0 * 3 + i) = ap_I ([(pn : Int), 0, 0].getD i 0)) ?_ ?_ ?_
      · rw [m3 _ (by omega), m1 0 (by omega), n0]
        rfl
      · rw [m3 _ (by omega), m1 1 (by omega), n1]
        rfl
      · rw [m3 _ (by omega), m1 2 (by omega), n2]
        rfl
    · refine ap_lt3 (P := fun i => c1 (1 * 3 + i) = ap_I ([1, -1, 0].getD i 0)) ?_ ?_ ?_
      · exact m2 0 (by omega)
      · exact m2 1 (by omega)
      · exact m2 2 (by omega)
    · exact ap_nI bn
    · refine ap_lt3 (P := fun i => b4 i = ap_I ([(cn : Int), -1, 0].getD i 0)) ?_ ?_ ?_
      · rw [m4 0 (by omega), g0]
        rfl
      · rw [m4 1 (by omega), g1]
        rfl
      · rw [m4 2 (by omega), g2]
        rfl
  refine ap_bestTop hen h hK (fun s1 k1 => ?_)
  obtain ⟨f0_present, f0_without, f0_rows, f0_turned, f0_unit, f0_columns, f0_firstWorth, f0_worthCount, f0_worthTop, f0_worthBottom, f0_lines, f0_empty, f0_hasHigh, f0_highTop, f0_highBottom, f0_hasLow, f0_lowTop, f0_lowBottom, f0_branches, f0_leastThird, f0_greatestThird, a1, a2, a3, a4, a5, a6, a7, a8, a9, a10, a11, a12, a13, a14, a15, a16, a17, a18, a19⟩ := s1
  refine ap_bestBottom hen h k1 (fun s1 k1 => ?_)
  obtain ⟨f0_present, f0_without, f0_rows, f0_turned, f0_unit, f0_columns, f0_firstWorth, f0_worthCount, f0_worthTop, f0_worthBottom, f0_lines, f0_empty, f0_hasHigh, f0_highTop, f0_highBottom, f0_hasLow, f0_lowTop, f0_lowBottom, f0_branches, f0_leastThird, f0_greatestThird, a1, a2, a3, a4, a5, a6, a7, a8, a9, a10, a11, a12, a13, a14, a15, a16, a17, a18, a19⟩ := s1
  refine ap_whole h k1 (fun s1 k1 => ?_)
  obtain ⟨f0_present, f0_without, f0_rows, f0_turned, f0_unit, f0_columns, f0_firstWorth, f0_worthCount, f0_worthTop, f0_worthBottom, f0_lines, f0_empty, f0_hasHigh, f0_highTop, f0_highBottom, f0_hasLow, f0_lowTop, f0_lowBottom, f0_branches, f0_leastThird, f0_greatestThird, a1, a2, a3, a4, a5, a6, a7, a8, a9, a10, a11, a12, a13, a14, a15, a16, a17, a18, a19⟩ := s1
  refine ap_pointTop h k1 (fun s1 k1 => ?_)
  obtain ⟨f0_present, f0_without, f0_rows, f0_turned, f0_unit, f0_columns, f0_firstWorth, f0_worthCount, f0_worthTop, f0_worthBottom, f0_lines, f0_empty, f0_hasHigh, f0_highTop, f0_highBottom, f0_hasLow, f0_lowTop, f0_lowBottom, f0_branches, f0_leastThird, f0_greatestThird, a1, a2, a3, a4, a5, a6, a7, a8, a9, a10, a11, a12, a13, a14, a15, a16, a17, a18, a19⟩ := s1
  refine ap_wholePoint h k1 (fun s1 k1 => ?_)
  obtain ⟨f0_present, f0_without, f0_rows, f0_turned, f0_unit, f0_columns, f0_firstWorth, f0_worthCount, f0_worthTop, f0_worthBottom, f0_lines, f0_empty, f0_hasHigh, f0_highTop, f0_highBottom, f0_hasLow, f0_lowTop, f0_lowBottom, f0_branches, f0_leastThird, f0_greatestThird, a1, a2, a3, a4, a5, a6, a7, a8, a9, a10, a11, a12, a13, a14, a15, a16, a17, a18, a19⟩ := s1
  have e20 : (20 : Int32) * nI pn = nI (20 * pn) := pk_mul 20 pn
  refine pk_le (20 * pn) bn (fun z => ?_) (fun z => ?_) e20
  · have eb : btn = 20 * pn := by omega
    have ed : (20 : Int32) = nI (btn / pn) := by
      rw [eb, Nat.mul_div_cancel _ (by omega)]
      rfl
    refine br_t rfl ?_
    exact ap_law167 h k1 H 0 20 (Or.inl ⟨rfl, eb⟩) ed
  · have eb : btn = bn := by omega
    have ed : nI bn / nI pn = nI (btn / pn) := by
      rw [eb, pk_div (by omega) (by omega) (by omega)]
    refine br_f (by decide) ⟨nI_ne0 (by omega) (by omega), ?_⟩
    exact ap_law167 h k1 H 1 _ (Or.inr ⟨rfl, eb⟩) ed
theorem i_vc (xs : Nat → Int32) (L : Nat) (hL : L ≤ 4) : wpL_law (fun r => r = 1) L xs := by
  unfold wpL_law
  refine ap_cellAt (k := 0) hL (by omega) (fun r1 => ?_)
  refine ap_cellAt (k := 1) hL (by omega) (fun r2 => ?_)
  refine ap_cellAt (k := 2) hL (by omega) (fun r3 => ?_)
  refine ap_cellAt (k := 3) hL (by omega) (fun r4 => ?_)
  exact ⟨2310, 36944, by omega, by omega, ap_lawOf rfl⟩
end
end
