section
/-! the picture: a grid of R rows and C columns; pins by a function of naturals -/
def cw_D (R C : Nat) : Prop := 1 ≤ R ∧ R < 4 ∧ 1 ≤ C ∧ C < 5
/-- the cell t of the line l, and the line's length -/
def cw_cell (R C l t : Nat) : Nat := if l < R then l * C + t else t * C + (l - R)
def cw_len (R C l : Nat) : Nat := if l < R then C else R
/-- one cell pinned -/
def cw_pin (q v i : Nat) : Nat := if i = q then v else 2
/-- the machines of the lines: all words -/
def cw_M (K : Nat) (a11 a12 a13 a14 a15 a16 : Nat → Int32) : Prop := ∀ l, l < K → a11 l = nI 1 ∧ a12 l = nI 1 ∧ a13 l = nI 1 ∧ a14 l = nI 1 ∧ a15 l = nI 1 ∧ ∀ p, p < 8 → a16 (l * 8 + p) = nI (if p = 0 then 1 else 0)
def cw_G (R C : Nat) (a1 a2 : Nat → Int32) : Prop := ∀ d, d < R * C → a1 d = nI (d / C) ∧ a2 d = nI (d % C)
def cw_P (N : Nat) (P : Nat → Nat) (a3 : Nat → Int32) : Prop := ∀ d, d < N → a3 d = nI (P d) ∧ P d ≤ 2
/-- what prepare makes -/
def cw_B (R C K : Nat) (a17 : Nat → Int32) : Prop := ∀ l, l < K → ∀ t, t ≤ cw_len R C l → a17 (l * 5 + t) = nI 257
theorem cw_t1 : ∀ R, R < 4 → ∀ C, C < 5 → ∀ l, l < R + C → ∀ t, t < cw_len R C l → cw_cell R C l t < R * C := by decide +kernel
theorem cw_t2 : ∀ R, R < 4 → ∀ C, C < 5 → R * C < 13 := by decide +kernel
theorem cw_t3a : ∀ R, R < 4 → ∀ C, C < 5 → ∀ d, d < R * C → d / C < R ∧ d % C < C := by decide +kernel
theorem cw_t3b : ∀ C, C < 5 → ∀ d, d < 13 → (d / C = 0 ∨ C ≤ d) ∧ (d % C = 0 ∨ 0 < d) := by decide +kernel
theorem cw_t3 : ∀ R, R < 4 → ∀ C, C < 5 → ∀ d, d < R * C → d / C < R ∧ d % C < C ∧ (d / C = 0 ∨ C ≤ d) ∧ (d % C = 0 ∨ 0 < d) :=
  fun R hR C hC d hd => ⟨(cw_t3a R hR C hC d hd).1, (cw_t3a R hR C hC d hd).2, cw_t3b C hC d (Nat.lt_trans hd (cw_t2 R hR C hC))⟩
theorem cw_t4 : ∀ R, R < 4 → ∀ C, C < 5 → ∀ r, r < R → ∀ c, c < C → r * C + c < R * C := by decide +kernel
theorem cw_t5 : ∀ R, R < 4 → ∀ C, C < 5 → ∀ r, r < R → ∀ c, c < C → (r * C + c) / C = r ∧ (r * C + c) % C = c := by decide +kernel
theorem cw_cell_lt {R C l t : Nat} (hD : cw_D R C) (hl : l < R + C) (ht : t < cw_len R C l) : cw_cell R C l t < R * C := cw_t1 R hD.2.1 C hD.2.2.2 l hl t ht
theorem cw_N12 {R C : Nat} (hD : cw_D R C) : R * C < 13 := cw_t2 R hD.2.1 C hD.2.2.2
theorem cw_N0 {R C : Nat} (hD : cw_D R C) : 0 < R * C := Nat.mul_pos hD.1 hD.2.2.1
theorem cw_len_in {R C : Nat} (hD : cw_D R C) (l : Nat) : 1 ≤ cw_len R C l ∧ cw_len R C l ≤ 4 := by
  obtain ⟨h1, h2, h3, h4⟩ := hD
  unfold cw_len
  split <;> omega
theorem cw_ix8 (l i : Nat) : nI l * 8 + nI i = nI (l * 8 + i) := by
  rw [show (8 : Int32) = nI 8 from rfl, pk_mul, nI_add]
theorem cw_ix5 (l i : Nat) : nI l * 5 + nI i = nI (l * 5 + i) := by
  rw [show (5 : Int32) = nI 5 from rfl, pk_mul, nI_add]
theorem cw_ix51 (l i : Nat) : nI l * 5 + nI i + 1 = nI (l * 5 + (i + 1)) := by
  rw [cw_ix5, nI_1]
  rfl
theorem cw_u {a b : Nat → Int32} {x : Int32} {k : Nat} {v w : Int32} (hx : x = nI k) (hk : k < 2 ^ 31) (hv : v = w) (hb : b = upd a k w) : upd a x.toNatClampNeg v = b := by
  rw [hx, nI_clamp hk, hv, hb]
theorem cw_sh1 : ∀ k, k < 13 → (1 : Int32) <<< (nI k &&& 31) = nI (2 ^ k) := by decide +kernel
theorem cw_sm : ∀ k, k < 32 → ((nI k &&& 31).toBitVec.smod 32).toNat = k := by decide +kernel
theorem cw_bit {b k : Nat} (hb : b < 2 ^ 31) (hk : k < 32) : (nI b >>> (nI k &&& 31)) &&& 1 = nI (b / 2 ^ k % 2) := by
  rw [pk_shrN hb _ k (cw_sm k hk), pk_andN (Nat.lt_of_le_of_lt (Nat.div_le_self _ _) (by omega)) 1 (by decide)]
theorem cw_b256 : ∀ i, i < 8 → (nI 256 >>> (nI i &&& 31)) &&& 1 = nI 0 := by decide +kernel
theorem cw_b1 : ∀ i, i < 8 → (nI 1 >>> (nI i &&& 31)) &&& 1 = nI (if i = 0 then 1 else 0) := by decide +kernel
end
section
section
variable {fr fc fl fe fh fp fy ff fn fa fo : Int32} {a1 a2 a3 a4 a5 a6 a7 a8 a9 a10 a11 a12 a13 a14 a15 a16 a17 a18 a19 a20 a21 : Nat → Int32}
theorem cw_lineLength {post : Int32 → Prop} {R C l : Nat} (hD : cw_D R C) (hl : l < R + C) (h : post (nI (cw_len R C l))) : wpX_lineLength post (nI R, nI C, fl, fe, fh, fp, fy, ff, fn, fa, fo, a1, a2, a3, a4, a5, a6, a7, a8, a9, a10, a11, a12, a13, a14, a15, a16, a17, a18, a19, a20, a21) (nI l) := by
  obtain ⟨h1, h2, h3, h4⟩ := hD
  unfold cw_len at h
  refine pk_le R l (fun z => ?_) (fun z => ?_)
  · rw [if_neg (by omega)] at h
    exact h
  · rw [if_pos z] at h
    exact h
theorem cw_cellOf {post : Int32 → Prop} {R C l t : Nat} (hD : cw_D R C) (hl : l < R + C) (h : post (nI (cw_cell R C l t))) : wpX_cellOf post (nI R, nI C, fl, fe, fh, fp, fy, ff, fn, fa, fo, a1, a2, a3, a4, a5, a6, a7, a8, a9, a10, a11, a12, a13, a14, a15, a16, a17, a18, a19, a20, a21) (nI l) (nI t) := by
  obtain ⟨h1, h2, h3, h4⟩ := hD
  unfold cw_cell at h
  refine pk_le R l (fun z => ?_) (fun z => ?_)
  · rw [if_neg (by omega)] at h
    rw [pk_mul, nI_add, pk_sub (by omega), Nat.add_sub_assoc z]
    exact h
  · rw [if_pos z] at h
    rw [pk_mul, nI_add]
    exact h
theorem cw_b48 {post : Int32 → Prop} {l : Nat} (hl : l < 7) (h16 : ∀ p, p < 8 → a16 (l * 8 + p) = nI (if p = 0 then 1 else 0)) (hp : post (nI 257)) : ∃ n, wX_before_48 post (nI l) (nI 1) fr fc fl fe fh fp fy ff fn fa fo a1 a2 a3 a4 a5 a6 a7 a8 a9 a10 a11 a12 a13 a14 a15 a16 a17 a18 a19 a20 a21 n 256 0 := by
  refine pk_loop (fun n i s => wX_before_48 post (nI l) (nI 1) fr fc fl fe fh fp fy ff fn fa fo a1 a2 a3 a4 a5 a6 a7 a8 a9 a10 a11 a12 a13 a14 a15 a16 a17 a18 a19 a20 a21 n s (nI i)) (fun i s => s = nI (if i = 0 then 256 else 257)) 8 0 256 (by omega) rfl ?_ ?_
  · intro n s h
    have h' : s = nI 257 := h
    subst h'
    exact pk_le 8 8 (fun _ => hp) (fun z => absurd z (by omega))
  · intro n i s hi h hw
    have h' : s = nI (if i = 0 then 256 else 257) := h
    have e : a16 (nI l * 8 + nI i).toNatClampNeg = nI (if i = 0 then 1 else 0) := by
      rw [cw_ix8, nI_clamp (by omega)]
      exact h16 i hi
    refine pk_le 8 i (fun z => absurd z (by omega)) (fun _ => ⟨pk_in (l * 8 + i) 56 (by omega) (cw_ix8 l i), ?_⟩)
    rw [e]
    by_cases h0 : i = 0
    · subst h0
      rw [if_pos rfl] at h'
      subst h'
      exact br_f (by decide) (nm_r (by decide) (nm_r (nI_1 _) (hw (nI 257) rfl)))
    · rw [if_neg h0] at h'
      rw [if_neg h0]
      subst h'
      exact br_t (by decide) (nm_r (nI_1 i) (hw (nI 257) (by rw [if_neg (by omega)])))
/-- before: 257 leads back to 257 -/
theorem cw_before {post : Int32 → Prop} {l K : Nat} {v : Int32} (hK : K < 8) (hl : l < K) (hM : cw_M K a11 a12 a13 a14 a15 a16) (hp : post (nI 257)) : wpX_before post (fr, fc, fl, fe, fh, fp, fy, ff, fn, fa, fo, a1, a2, a3, a4, a5, a6, a7, a8, a9, a10, a11, a12, a13, a14, a15, a16, a17, a18, a19, a20, a21) (nI l) (nI 257) v := by
  obtain ⟨e11, e12, e13, e14, e15, h16⟩ := hM l hl
  have c : (nI l).toNatClampNeg = l := nI_clamp (by omega)
  have key : wX_before_23 post (nI l) (nI 1) fr fc fl fe fh fp fy ff fn fa fo a1 a2 a3 a4 a5 a6 a7 a8 a9 a10 a11 a12 a13 a14 a15 a16 a17 a18 a19 a20 a21 := by
    refine ⟨pk_in l 7 (by omega), ?_⟩
    rw [c, e11]
    exact br_f (by decide) (cw_b48 (by omega) h16 hp)
  refine br_c (fun _ => ⟨pk_in l 7 (by omega), ?_⟩) (fun _ => ⟨pk_in l 7 (by omega), ?_⟩)
  · rw [c, e14, show nI 257 &&& nI 1 = nI 1 from by decide]
    exact key
  · rw [c, e15, show nI 257 &&& nI 1 = nI 1 from by decide]
    exact key
theorem cw_s22 {post : Int32 → Prop} {l g : Nat} {v x0 : Int32} (hl : l < 7) (e14 : a14 l = nI 1) (e15 : a15 l = nI 1) (h16 : ∀ p, p < 8 → a16 (l * 8 + p) = nI (if p = 0 then 1 else 0)) (hg : g = 256 ∨ g = 1) (hx : x0 = nI (if g = 1 then 0 else 1)) (hp : post (nI 1)) :
    ∃ n, wX_step_22 post (nI l) (nI g) v fr fc fl fe fh fp fy ff fn fa fo a1 a2 a3 a4 a5 a6 a7 a8 a9 a10 a11 a12 a13 a14 a15 a16 a17 a18 a19 a20 a21 n x0 0 := by
  have c : (nI l).toNatClampNeg = l := nI_clamp (by omega)
  refine pk_loop (fun n i s => wX_step_22 post (nI l) (nI g) v fr fc fl fe fh fp fy ff fn fa fo a1 a2 a3 a4 a5 a6 a7 a8 a9 a10 a11 a12 a13 a14 a15 a16 a17 a18 a19 a20 a21 n s (nI i)) (fun i s => s = nI (if g = 1 ∧ i = 0 then 0 else 1)) 8 0 x0 (by omega) (by rw [hx]; simp) ?_ ?_
  · intro n s h
    have h' : s = nI 1 := by
      rw [h, if_neg (by omega)]
    subst h'
    refine pk_le 8 8 (fun _ => br_c (fun _ => ⟨pk_in l 7 (by omega), ?_⟩) (fun _ => ⟨pk_in l 7 (by omega), ?_⟩)) (fun z => absurd z (by omega))
    · rw [c, e14]
      exact hp
    · rw [c, e15]
      exact hp
  · intro n i s hi h hw
    have h' : s = nI (if g = 1 ∧ i = 0 then 0 else 1) := h
    have e : a16 (nI l * 8 + nI i).toNatClampNeg = nI (if i = 0 then 1 else 0) := by
      rw [cw_ix8, nI_clamp (by omega)]
      exact h16 i hi
    refine pk_le 8 i (fun z => absurd z (by omega)) (fun _ => ?_)
    rcases hg with hg | hg
    · subst hg
      rw [if_neg (by omega)] at h'
      subst h'
      rw [cw_b256 i hi]
      exact br_f (by decide) (nm_r (nI_1 i) (hw (nI 1) (by rw [if_neg (by omega)])))
    · subst hg
      rw [cw_b1 i hi]
      by_cases h0 : i = 0
      · subst h0
        rw [if_pos ⟨rfl, rfl⟩] at h'
        subst h'
        refine br_t (by decide) ⟨pk_in (l * 8 + 0) 56 (by omega) (cw_ix8 l 0), ?_⟩
        rw [e]
        exact nm_r (by decide) (nm_r (nI_1 0) (hw (nI 1) rfl))
      · rw [if_neg (by omega)] at h'
        subst h'
        rw [if_neg h0]
        exact br_f (by decide) (nm_r (nI_1 i) (hw (nI 1) (by rw [if_neg (by omega)])))
/-- step: from START, or from place 0, to place 0 -/
theorem cw_step {post : Int32 → Prop} {l K g : Nat} {v : Int32} (hK : K < 8) (hl : l < K) (hM : cw_M K a11 a12 a13 a14 a15 a16) (hg : g = 256 ∨ g = 1) (hp : post (nI 1)) : wpX_step post (fr, fc, fl, fe, fh, fp, fy, ff, fn, fa, fo, a1, a2, a3, a4, a5, a6, a7, a8, a9, a10, a11, a12, a13, a14, a15, a16, a17, a18, a19, a20, a21) (nI l) (nI g) v := by
  obtain ⟨e11, e12, e13, e14, e15, h16⟩ := hM l hl
  have c : (nI l).toNatClampNeg = l := nI_clamp (by omega)
  rcases hg with hg | hg
  · subst hg
    exact br_f (by decide) ⟨pk_in l 7 (by omega), nm_r (by rw [c]; exact e11) (cw_s22 (by omega) e14 e15 h16 (Or.inl rfl) rfl hp)⟩
  · subst hg
    exact br_t (by decide) (cw_s22 (by omega) e14 e15 h16 (Or.inr rfl) rfl hp)
end
end
section
section
variable {fr fc fl fe fh fp fy ff fn fa fo : Int32} {a1 a2 a3 a4 a5 a6 a7 a8 a9 a10 a11 a12 a13 a14 a15 a16 a17 a18 a19 a20 a21 : Nat → Int32}
theorem cw_107 {post : St2 → Prop} {J : Int32 → Int32 → (Nat → Int32) → (Nat → Int32) → (Nat → Int32) → (Nat → Int32) → (Nat → Int32) → (Nat → Int32) → (Nat → Int32) → (Nat → Int32) → (Nat → Int32) → (Nat → Int32) → (Nat → Int32) → (Nat → Int32) → (Nat → Int32) → (Nat → Int32) → (Nat → Int32) → (Nat → Int32) → (Nat → Int32) → (Nat → Int32) → (Nat → Int32) → (Nat → Int32) → (Nat → Int32) → Prop} {l i : Nat} (hi : l * 5 + i < 35) (H : J (nI 257) (nI i - 1) a1 a2 a3 a4 a5 a6 a7 a8 a9 a10 a11 a12 a13 a14 a15 a16 (upd a17 (l * 5 + i) (nI 257)) a18 a19 a20 a21) :
    wX_prepareLine_107 post J (nI l) (nI i) (nI 257) fr fc fl fe fh fp fy ff fn fa fo a1 a2 a3 a4 a5 a6 a7 a8 a9 a10 a11 a12 a13 a14 a15 a16 a17 a18 a19 a20 a21 :=
  ⟨pk_in (l * 5 + i) 35 hi (cw_ix5 l i), nm_r (cw_u (cw_ix5 l i) (by omega) rfl rfl) (nm_r (Int32.sub_eq_add_neg _ _).symm H)⟩
/-- prepareLine: 257 in all the line's places of back -/
theorem cw_prepLine {post : St2 → Prop} {R C l : Nat} {P : Nat → Nat} (hD : cw_D R C) (hl : l < R + C) (hM : cw_M (R + C) a11 a12 a13 a14 a15 a16) (hP : cw_P (R * C) P a3)
    (H : ∀ s : Nat → Int32, (∀ t, t ≤ cw_len R C l → s (l * 5 + t) = nI 257) → (∀ j, j < l * 5 → s j = a17 j) → post (nI R, nI C, fl, fe, fh, fp, fy, ff, fn, fa, fo, a1, a2, a3, a4, a5, a6, a7, a8, a9, a10, a11, a12, a13, a14, a15, a16, s, a18, a19, a20, a21)) : wpX_prepareLine post (nI R, nI C, fl, fe, fh, fp, fy, ff, fn, fa, fo, a1, a2, a3, a4, a5, a6, a7, a8, a9, a10, a11, a12, a13, a14, a15, a16, a17, a18, a19, a20, a21) (nI l) := by
  have hD' := hD
  obtain ⟨h1, h2, h3, h4⟩ := hD'
  obtain ⟨e11, e12, e13, e14, e15, h16⟩ := hM l hl
  obtain ⟨n1, n4⟩ := cw_len_in hD l
  have hN := cw_N12 hD
  have c : (nI l).toNatClampNeg = l := nI_clamp (by omega)
  unfold wpX_prepareLine
  refine cw_lineLength hD hl ?_
  rw [c, e12, e13]
  refine ⟨pk_in l 7 (by omega), nm_e ⟨pk_in l 7 (by omega), br_f (by decide) (nm_r (e' := nI 257) (by decide) ?_)⟩⟩
  refine ⟨pk_in (l * 5 + cw_len R C l) 35 (by omega) (cw_ix5 l _), nm_r (cw_u (cw_ix5 l _) (by omega) rfl rfl) (nm_e ⟨cw_len R C l + 1, ?_⟩)⟩
  refine pk_loopD (fun n i s => wX_prepareLine_44 post (nI l) (nI R) (nI C) fl fe fh fp fy ff fn fa fo n (nI 257) (nI i - 1) a1 a2 a3 a4 a5 a6 a7 a8 a9 a10 a11 a12 a13 a14 a15 a16 s a18 a19 a20 a21) (fun i s => i ≤ cw_len R C l ∧ (∀ t, i ≤ t → t ≤ cw_len R C l → s (l * 5 + t) = nI 257) ∧ (∀ j, j < l * 5 → s j = a17 j)) ?_ ?_ (cw_len R C l) _ ?_
  · intro n s h
    exact br_t (by decide) (H s (fun t ht => h.2.1 t (by omega) ht) h.2.2)
  · intro n i s h hw
    obtain ⟨g1, g2, g3⟩ := h
    show wX_prepareLine_44 post (nI l) (nI R) (nI C) fl fe fh fp fy ff fn fa fo (n + 1) (nI 257) (nI (i + 1) - 1) a1 a2 a3 a4 a5 a6 a7 a8 a9 a10 a11 a12 a13 a14 a15 a16 s a18 a19 a20 a21
    rw [nI_pred]
    have hc := cw_cell_lt hD hl (t := i) (by omega)
    have cc : (nI (cw_cell R C l i)).toNatClampNeg = cw_cell R C l i := nI_clamp (by omega)
    obtain ⟨p1, p2⟩ := hP _ hc
    have fin : ∀ J, J = wX_prepareLine_44 post (nI l) (nI R) (nI C) fl fe fh fp fy ff fn fa fo n → wX_prepareLine_107 post J (nI l) (nI i) (nI 257) (nI R) (nI C) fl fe fh fp fy ff fn fa fo a1 a2 a3 a4 a5 a6 a7 a8 a9 a10 a11 a12 a13 a14 a15 a16 s a18 a19 a20 a21 := by
      intro J hJ
      refine cw_107 (by omega) ?_
      rw [hJ]
      refine hw (upd s (l * 5 + i) (nI 257)) ⟨by omega, fun t t1 t2 => ?_, fun j hj => ?_⟩
      · by_cases e : t = i
        · rw [e, pk_us]
        · rw [pk_un (by omega)]
          exact g2 t (by omega) t2
      · rw [pk_un (by omega)]
        exact g3 j hj
    refine br_f (nI_pos (by omega)) (cw_cellOf hD hl ⟨pk_in (cw_cell R C l i) 12 (by omega), ?_⟩)
    rw [cc, p1]
    refine pk_eq (P (cw_cell R C l i)) 1 (fun z => ?_) (fun z => ?_)
    · refine ⟨pk_in (cw_cell R C l i) 12 (by omega), ?_⟩
      rw [cc, p1, z]
      exact br_f (by decide) (cw_before (K := R + C) (by omega) hl hM (nm_r (e' := nI 257) (by decide) (fin _ rfl)))
    · refine cw_before (K := R + C) (by omega) hl hM ⟨pk_in (cw_cell R C l i) 12 (by omega), ?_⟩
      rw [cc, p1]
      exact br_c (fun _ => fin _ rfl) (fun _ => cw_before (K := R + C) (by omega) hl hM (nm_r (e' := nI 257) (by decide) (fin _ rfl)))
  · refine ⟨Nat.le_refl _, fun t t1 t2 => ?_, fun j hj => ?_⟩
    · rw [show t = cw_len R C l by omega, pk_us]
    · rw [pk_un (by omega)]
/-- prepare, behind a change or behind itself -/
theorem cw_prepare {post : St2 → Prop} {R C : Nat} {P : Nat → Nat} (hD : cw_D R C) (hM : cw_M (R + C) a11 a12 a13 a14 a15 a16) (hP : cw_P (R * C) P a3) (hr : fy = 0 ∨ cw_B R C (R + C) a17)
    (H : ∀ (y : Int32) (s : Nat → Int32), cw_B R C (R + C) s → post (nI R, nI C, nI (R + C), nI (R * C), fh, fp, y, ff, fn, fa, fo, a1, a2, a3, a4, a5, a6, a7, a8, a9, a10, a11, a12, a13, a14, a15, a16, s, a18, a19, a20, a21)) : wpX_prepare post (nI R, nI C, nI (R + C), nI (R * C), fh, fp, fy, ff, fn, fa, fo, a1, a2, a3, a4, a5, a6, a7, a8, a9, a10, a11, a12, a13, a14, a15, a16, a17, a18, a19, a20, a21) := by
  have hD' := hD
  obtain ⟨h1, h2, h3, h4⟩ := hD'
  refine br_c (fun _ => ?_) (fun z => H fy a17 (hr.resolve_left z))
  refine pk_loop (fun n i s => wX_prepare_10 post n (nI i) (nI R) (nI C) (nI (R + C)) (nI (R * C)) fh fp fy ff fn fa fo a1 a2 a3 a4 a5 a6 a7 a8 a9 a10 a11 a12 a13 a14 a15 a16 s a18 a19 a20 a21) (fun i s => cw_B R C i s) (R + C) 0 a17 (by omega) (fun l hl => absurd hl (by omega)) ?_ ?_
  · intro n s h
    exact pk_le (R + C) (R + C) (fun _ => H 1 s h) (fun z => absurd z (by omega))
  · intro n i s hi h hw
    refine pk_le (R + C) i (fun z => absurd z (by omega)) (fun _ => cw_prepLine (P := P) hD hi hM hP ?_)
    intro s' g1 g2
    refine nm_r (nI_1 i) (hw s' ?_)
    intro l hl t ht
    by_cases e : l = i
    · subst e
      exact g1 t ht
    · have := (cw_len_in hD l).2
      rw [g2 _ (by omega)]
      exact h l (by omega) t ht
end
end
section
def cw_fit (R C : Nat) (P : Nat → Nat) (l b t : Nat) : Bool := P (cw_cell R C l t) == 2 || P (cw_cell R C l t) == b / 2 ^ (cw_len R C l - 1 - t) % 2
def cw_all (R C : Nat) (P : Nat → Nat) (l b : Nat) : Nat → Bool
  | 0 => true
  | t + 1 => cw_all R C P l b t && cw_fit R C P l b t
/-- the words of a line -/
def cw_cnt (R C : Nat) (P : Nat → Nat) (l : Nat) : Nat → Nat
  | 0 => 0
  | b + 1 => cw_cnt R C P l b + (if cw_all R C P l b (cw_len R C l) then 1 else 0)
theorem cw_all_f {R C : Nat} {P : Nat → Nat} {l b t : Nat} (h : cw_fit R C P l b t = false) : ∀ n, t < n → cw_all R C P l b n = false := by
  intro n
  induction n with
  | zero => intro z; omega
  | succ n ih =>
    intro z
    unfold cw_all
    by_cases e : t = n
    · subst e
      rw [h, Bool.and_false]
    · rw [ih (by omega), Bool.false_and]
theorem cw_cnt_le (R C : Nat) (P : Nat → Nat) (l : Nat) : ∀ b, cw_cnt R C P l b ≤ b := by
  intro b
  induction b with
  | zero => exact Nat.le_refl 0
  | succ b ih =>
    unfold cw_cnt
    split <;> omega
set_option maxRecDepth 100000 in
theorem cw_words : ∀ R, R < 4 → ∀ C, C < 5 → ∀ r, r < R → ∀ c, c < C → ∀ v, v < 3 → ∀ l, l < R + C → cw_cnt R C (cw_pin (r * C + c) v) l (2 ^ cw_len R C l) = 2 ^ (if v < 2 ∧ (l = r ∨ l = R + c) then cw_len R C l - 1 else cw_len R C l) := by decide +kernel
section
variable {fr fc fl fe fh fp fy ff fn fa fo : Int32} {a1 a2 a3 a4 a5 a6 a7 a8 a9 a10 a11 a12 a13 a14 a15 a16 a17 a18 a19 a20 a21 : Nat → Int32}
/-- spells -/
theorem cw_spells {post : Int32 → Prop} {R C l b : Nat} {P : Nat → Nat} (hD : cw_D R C) (hl : l < R + C) (hb : b < 2 ^ 31) (hM : cw_M (R + C) a11 a12 a13 a14 a15 a16) (hP : cw_P (R * C) P a3) (hB : cw_B R C (R + C) a17)
    (H : post (nI (if cw_all R C P l b (cw_len R C l) then 1 else 0))) : wpX_spells post (nI R, nI C, fl, fe, fh, fp, fy, ff, fn, fa, fo, a1, a2, a3, a4, a5, a6, a7, a8, a9, a10, a11, a12, a13, a14, a15, a16, a17, a18, a19, a20, a21) (nI l) (nI (cw_len R C l)) (nI b) := by
  have hD' := hD
  obtain ⟨h1, h2, h3, h4⟩ := hD'
  obtain ⟨n1, n4⟩ := cw_len_in hD l
  have hN := cw_N12 hD
  refine pk_loop (fun n i s => wX_spells_8 post (nI l) (nI (cw_len R C l)) (nI b) (nI R) (nI C) fl fe fh fp fy ff fn fa fo a1 a2 a3 a4 a5 a6 a7 a8 a9 a10 a11 a12 a13 a14 a15 a16 a17 a18 a19 a20 a21 n s (nI i)) (fun i s => s = nI (if i = 0 then 256 else 1) ∧ cw_all R C P l b i = true) (cw_len R C l) 0 256 (by omega) ⟨rfl, rfl⟩ ?_ ?_
  · intro n s h
    obtain ⟨e, g⟩ := h
    rw [if_neg (by omega)] at e
    subst e
    rw [if_pos g] at H
    exact pk_le (cw_len R C l) (cw_len R C l) (fun _ => br_f (by decide) H) (fun z => absurd z (by omega))
  · intro n i s hi h hw
    obtain ⟨e, g⟩ := h
    have hc := cw_cell_lt hD hl hi
    have cc : (nI (cw_cell R C l i)).toNatClampNeg = cw_cell R C l i := nI_clamp (by omega)
    obtain ⟨p1, p2⟩ := hP _ hc
    have ev : (nI b >>> ((nI (cw_len R C l) - 1 - nI i) &&& 31)) &&& 1 = nI (b / 2 ^ (cw_len R C l - 1 - i) % 2) := by
      rw [show nI (cw_len R C l) - 1 = nI (cw_len R C l - 1) from pk_sub (b := 1) (by omega), pk_sub (by omega)]
      exact cw_bit hb (by omega)
    have fin : cw_fit R C P l b i = true → ∀ J, J = wX_spells_8 post (nI l) (nI (cw_len R C l)) (nI b) (nI R) (nI C) fl fe fh fp fy ff fn fa fo a1 a2 a3 a4 a5 a6 a7 a8 a9 a10 a11 a12 a13 a14 a15 a16 a17 a18 a19 a20 a21 n → wX_spells_55 post J (nI l) (nI (cw_len R C l)) (nI b) s (nI i) (nI (b / 2 ^ (cw_len R C l - 1 - i) % 2)) (nI R) (nI C) fl fe fh fp fy ff fn fa fo a1 a2 a3 a4 a5 a6 a7 a8 a9 a10 a11 a12 a13 a14 a15 a16 a17 a18 a19 a20 a21 := by
      intro ft J hJ
      subst hJ
      rw [e]
      unfold wX_spells_55
      refine cw_step (K := R + C) (by omega) hl hM (by split <;> simp) ⟨pk_in (l * 5 + (i + 1)) 35 (by omega) (cw_ix51 l i), ?_⟩
      refine nm_r (e' := nI 1) ?_ (nm_r (nI_1 i) (hw (nI 1) ⟨by rw [if_neg (by omega)], ?_⟩))
      · rw [cw_ix51, nI_clamp (by omega), hB l hl (i + 1) (by omega)]
        decide
      · unfold cw_all
        rw [g, ft]
        rfl
    have bad : cw_fit R C P l b i = false → post 0 := by
      intro ft
      rw [cw_all_f ft _ hi] at H
      exact H
    refine pk_le (cw_len R C l) i (fun z => absurd z (by omega)) (fun _ => nm_r ev (cw_cellOf hD hl ⟨pk_in (cw_cell R C l i) 12 (by omega), nm_r (e' := nI (P (cw_cell R C l i))) (by rw [cc]; exact p1) ?_⟩))
    refine pk_eq (P (cw_cell R C l i)) 2 (fun z => fin ?_ _ rfl) (fun z => pk_eq (P (cw_cell R C l i)) (b / 2 ^ (cw_len R C l - 1 - i) % 2) (fun y => fin ?_ _ rfl) (fun y => bad ?_))
    · unfold cw_fit
      rw [z]
      rfl
    · unfold cw_fit
      rw [← y]
      simp
    · unfold cw_fit
      simp [z, y]
theorem cw_29 {post : Int32 → St2 → Prop} {R C l : Nat} {P : Nat → Nat} (hD : cw_D R C) (hl : l < R + C) (hM : cw_M (R + C) a11 a12 a13 a14 a15 a16) (hP : cw_P (R * C) P a3) (hB : cw_B R C (R + C) a17)
    (H : post (nI (cw_cnt R C P l (2 ^ cw_len R C l))) (nI R, nI C, fl, fe, fh, fp, fy, ff, fn, fa, fo, a1, a2, a3, a4, a5, a6, a7, a8, a9, a10, a11, a12, a13, a14, a15, a16, a17, a18, a19, a20, a21)) : ∃ n, wX_lineWords_29 post (nI l) (nI (cw_len R C l)) (nI R) (nI C) fl fe fh fp fy ff fn fa fo a1 a2 a3 a4 a5 a6 a7 a8 a9 a10 a11 a12 a13 a14 a15 a16 a17 a18 a19 a20 a21 n 0 0 := by
  obtain ⟨n1, n4⟩ := cw_len_in hD l
  have hw4 : 2 ^ cw_len R C l ≤ 16 := Nat.pow_le_pow_right (n := 2) (by omega) n4
  have e1 := cw_sh1 (cw_len R C l) (by omega)
  refine pk_loop (fun n i s => wX_lineWords_29 post (nI l) (nI (cw_len R C l)) (nI R) (nI C) fl fe fh fp fy ff fn fa fo a1 a2 a3 a4 a5 a6 a7 a8 a9 a10 a11 a12 a13 a14 a15 a16 a17 a18 a19 a20 a21 n s (nI i)) (fun i s => s = nI (cw_cnt R C P l i)) (2 ^ cw_len R C l) 0 0 (Nat.zero_le _) rfl ?_ ?_
  · intro n s h
    have h' : s = nI (cw_cnt R C P l (2 ^ cw_len R C l)) := h
    subst h'
    exact pk_le (2 ^ cw_len R C l) (2 ^ cw_len R C l) (fun _ => H) (fun z => absurd z (by omega)) e1 rfl
  · intro n i s hi h hw
    have h' : s = nI (cw_cnt R C P l i) := h
    subst h'
    refine pk_le (2 ^ cw_len R C l) i (fun z => absurd z (by omega)) (fun _ => cw_spells (P := P) hD hl (by omega) hM hP hB ?_) e1 rfl
    by_cases z : cw_all R C P l i (cw_len R C l) = true
    · rw [if_pos z]
      exact br_f (by decide) (nm_r (nI_1 _) (nm_r (nI_1 i) (hw _ (by show _ = nI (cw_cnt R C P l i + _); rw [if_pos z]))))
    · rw [if_neg z]
      exact br_t (by decide) (nm_r (nI_1 i) (hw _ (by show _ = nI (cw_cnt R C P l i + _); rw [if_neg z]; rfl)))
/-- lineWords of a line -/
theorem cw_lineWords {post : Int32 → St2 → Prop} {R C l : Nat} {P : Nat → Nat} (hD : cw_D R C) (hl : l < R + C) (hM : cw_M (R + C) a11 a12 a13 a14 a15 a16) (hP : cw_P (R * C) P a3) (hr : fy = 0 ∨ cw_B R C (R + C) a17)
    (H : ∀ (y : Int32) (s : Nat → Int32), cw_B R C (R + C) s → post (nI (cw_cnt R C P l (2 ^ cw_len R C l))) (nI R, nI C, nI (R + C), nI (R * C), fh, fp, y, ff, fn, fa, fo, a1, a2, a3, a4, a5, a6, a7, a8, a9, a10, a11, a12, a13, a14, a15, a16, s, a18, a19, a20, a21)) : wpX_lineWords post (nI R, nI C, nI (R + C), nI (R * C), fh, fp, fy, ff, fn, fa, fo, a1, a2, a3, a4, a5, a6, a7, a8, a9, a10, a11, a12, a13, a14, a15, a16, a17, a18, a19, a20, a21) (nI l) := by
  have hD' := hD
  obtain ⟨h1, h2, h3, h4⟩ := hD'
  refine br_f (nI_pos (by omega)) (pk_lt l (R + C) (fun _ => ?_) (fun z => absurd z (by omega)))
  refine cw_prepare (P := P) hD hM hP hr (fun y s hs => ?_)
  exact cw_lineLength hD hl (cw_29 (P := P) hD hl hM hP hs (H y s hs))
end
end
section
section
variable {fr fc fl fe fh fp fy ff fn fa fo : Int32} {a1 a2 a3 a4 a5 a6 a7 a8 a9 a10 a11 a12 a13 a14 a15 a16 a17 a18 a19 a20 a21 : Nat → Int32}
theorem cw_114 {post : Int32 → St2 → Prop} {R C d v r c g : Nat} (hD : cw_D R C) (hM : cw_M (R + C) a11 a12 a13 a14 a15 a16) (hB : cw_B R C (R + C) a17) (hr : r < R) (hc : c < C) (hd : d < 12) (hg : g = 256 ∨ g = 1)
    (H : post 1 (nI R, nI C, fl, fe, fh, fp, fy, ff, fn, fa, fo, a1, a2, a3, a4, a5, a6, a7, a8, a9, a10, a11, a12, a13, a14, a15, a16, a17, upd a18 d (nI v), a19, upd a20 d (nI 1), upd a21 d (nI 1))) : wX_place_114 post (nI d) (nI v) (nI r) (nI c) (nI 1) (nI g) (nI R) (nI C) fl fe fh fp fy ff fn fa fo a1 a2 a3 a4 a5 a6 a7 a8 a9 a10 a11 a12 a13 a14 a15 a16 a17 a18 a19 a20 a21 := by
  have hD' := hD
  obtain ⟨h1, h2, h3, h4⟩ := hD'
  have el : cw_len R C (R + c) = R := if_neg (by omega)
  unfold wX_place_114
  rw [nI_add]
  refine cw_step (K := R + C) (by omega) (by omega) hM hg ⟨pk_in ((R + c) * 5 + (r + 1)) 35 (by omega) (cw_ix51 _ _), nm_r (e' := nI 1) ?_ ?_⟩
  · rw [cw_ix51, nI_clamp (by omega), hB (R + c) (by omega) (r + 1) (by omega)]
    decide
  · exact br_f (by decide) ⟨pk_in d 12 hd, nm_r (cw_u rfl (by omega) rfl rfl) ⟨pk_in d 12 hd, nm_r (cw_u rfl (by omega) rfl rfl) ⟨pk_in d 12 hd, nm_r (cw_u rfl (by omega) rfl rfl) H⟩⟩⟩
theorem cw_57 {post : Int32 → St2 → Prop} {R C d v r c g : Nat} (hD : cw_D R C) (hM : cw_M (R + C) a11 a12 a13 a14 a15 a16) (hB : cw_B R C (R + C) a17) (hr : r < R) (hc : c < C) (hd : d < 12) (hg : g = 256 ∨ g = 1) (hrd : 0 < r → C ≤ d) (h21 : ∀ i, i < d → a21 i = nI 1)
    (H : post 1 (nI R, nI C, fl, fe, fh, fp, fy, ff, fn, fa, fo, a1, a2, a3, a4, a5, a6, a7, a8, a9, a10, a11, a12, a13, a14, a15, a16, a17, upd a18 d (nI v), a19, upd a20 d (nI 1), upd a21 d (nI 1))) : wX_place_57 post (nI d) (nI v) (nI r) (nI c) (nI g) (nI R) (nI C) fl fe fh fp fy ff fn fa fo a1 a2 a3 a4 a5 a6 a7 a8 a9 a10 a11 a12 a13 a14 a15 a16 a17 a18 a19 a20 a21 := by
  have hD' := hD
  obtain ⟨h1, h2, h3, h4⟩ := hD'
  have el : cw_len R C r = C := if_pos (by omega)
  unfold wX_place_57
  refine cw_step (K := R + C) (by omega) (by omega) hM hg ⟨pk_in (r * 5 + (c + 1)) 35 (by omega) (cw_ix51 _ _), nm_r (e' := nI 1) ?_ ?_⟩
  · rw [cw_ix51, nI_clamp (by omega), hB r (by omega) (c + 1) (by omega)]
    decide
  · refine br_f (by decide) (pk_le r 0 (fun z => cw_114 hD hM hB hr hc hd (Or.inl rfl) H) (fun z => ?_))
    have hCd := hrd z
    refine ⟨pk_in (d - C) 12 (by omega) (pk_sub hCd), nm_r (e' := nI 1) ?_ (cw_114 hD hM hB hr hc hd (Or.inr rfl) H)⟩
    rw [pk_sub hCd, nI_clamp (by omega)]
    exact h21 (d - C) (by omega)
theorem cw_22 {post : Int32 → St2 → Prop} {R C d v : Nat} (hD : cw_D R C) (hM : cw_M (R + C) a11 a12 a13 a14 a15 a16) (hB : cw_B R C (R + C) a17) (hG : cw_G R C a1 a2) (hd : d < R * C) (h20 : ∀ i, i < d → a20 i = nI 1) (h21 : ∀ i, i < d → a21 i = nI 1)
    (H : post 1 (nI R, nI C, fl, fe, fh, fp, fy, ff, fn, fa, fo, a1, a2, a3, a4, a5, a6, a7, a8, a9, a10, a11, a12, a13, a14, a15, a16, a17, upd a18 d (nI v), a19, upd a20 d (nI 1), upd a21 d (nI 1))) : wX_place_22 post (nI d) (nI v) (nI R) (nI C) fl fe fh fp fy ff fn fa fo a1 a2 a3 a4 a5 a6 a7 a8 a9 a10 a11 a12 a13 a14 a15 a16 a17 a18 a19 a20 a21 := by
  have hD' := hD
  obtain ⟨h1, h2, h3, h4⟩ := hD'
  have hN := cw_N12 hD
  obtain ⟨t1, t2, t3, t4⟩ := cw_t3 R h2 C h4 d hd
  obtain ⟨e1, e2⟩ := hG d hd
  have cc : (nI d).toNatClampNeg = d := nI_clamp (by omega)
  refine ⟨pk_in d 12 (by omega), nm_r (e' := nI (d / C)) (by rw [cc]; exact e1) ⟨pk_in d 12 (by omega), nm_r (e' := nI (d % C)) (by rw [cc]; exact e2) ?_⟩⟩
  refine pk_le (d % C) 0 (fun z => cw_57 hD hM hB t1 t2 (by omega) (Or.inl rfl) (fun z => t3.resolve_left (by omega)) h21 H) (fun z => ?_)
  have := t4.resolve_left (by omega)
  refine ⟨pk_in (d - 1) 12 (by omega) (pk_sub (b := 1) (by omega)), nm_r (e' := nI 1) ?_ (cw_57 hD hM hB t1 t2 (by omega) (Or.inr rfl) (fun z => t3.resolve_left (by omega)) h21 H)⟩
  rw [show nI d - 1 = nI (d - 1) from pk_sub (b := 1) (by omega), nI_clamp (by omega)]
  exact h20 (d - 1) (by omega)
/-- place -/
theorem cw_place {post : Int32 → St2 → Prop} {R C d v : Nat} {P : Nat → Nat} (hD : cw_D R C) (hM : cw_M (R + C) a11 a12 a13 a14 a15 a16) (hP : cw_P (R * C) P a3) (hB : cw_B R C (R + C) a17) (hG : cw_G R C a1 a2) (hd : d < R * C) (hv : v < 2) (h20 : ∀ i, i < d → a20 i = nI 1) (h21 : ∀ i, i < d → a21 i = nI 1)
    (H1 : (P d = 2 ∨ P d = v) → post 1 (nI R, nI C, fl, fe, fh, fp, fy, ff, fn, fa, fo, a1, a2, a3, a4, a5, a6, a7, a8, a9, a10, a11, a12, a13, a14, a15, a16, a17, upd a18 d (nI v), a19, upd a20 d (nI 1), upd a21 d (nI 1)))
    (H0 : ¬ (P d = 2 ∨ P d = v) → post 0 (nI R, nI C, fl, fe, fh, fp, fy, ff, fn, fa, fo, a1, a2, a3, a4, a5, a6, a7, a8, a9, a10, a11, a12, a13, a14, a15, a16, a17, a18, a19, a20, a21)) : wpX_place post (nI R, nI C, fl, fe, fh, fp, fy, ff, fn, fa, fo, a1, a2, a3, a4, a5, a6, a7, a8, a9, a10, a11, a12, a13, a14, a15, a16, a17, a18, a19, a20, a21) (nI d) (nI v) := by
  have hN := cw_N12 hD
  obtain ⟨p1, p2⟩ := hP d hd
  have cc : (nI d).toNatClampNeg = d := nI_clamp (by omega)
  have e3 : a3 (nI d).toNatClampNeg = nI (P d) := by rw [cc]; exact p1
  refine ⟨pk_in d 12 (by omega), ?_⟩
  rw [e3]
  exact pk_eq (P d) 2 (fun z => cw_22 hD hM hB hG hd h20 h21 (H1 (Or.inl z))) (fun z => ⟨pk_in d 12 (by omega), pk_eq (P d) v (fun y => cw_22 hD hM hB hG hd h20 h21 (H1 (Or.inr y))) (fun y => H0 (fun q => q.elim z y))⟩)
/-- enter, with 4096 for both bounds -/
theorem cw_enter {post : Int32 → St2 → Prop} {N f : Nat} (hN : N < 13) (hf : f < 4096) (hb : ∀ i, i < N → ∃ b, b < 2 ∧ a18 i = nI b)
    (H1 : ∀ x y z : Int32, f + 1 = 4096 → post 1 (fr, fc, fl, nI N, fh, fp, fy, nI (f + 1), x, y, z, a1, a2, a3, a4, a5, a6, a7, a8, a9, a10, a11, a12, a13, a14, a15, a16, a17, a18, a19, a20, a21))
    (H0 : ∀ x y z : Int32, f + 1 ≠ 4096 → post 0 (fr, fc, fl, nI N, fh, fp, fy, nI (f + 1), x, y, z, a1, a2, a3, a4, a5, a6, a7, a8, a9, a10, a11, a12, a13, a14, a15, a16, a17, a18, a19, a20, a21)) : wpX_enter post (fr, fc, fl, nI N, fh, fp, fy, nI f, fn, fa, fo, a1, a2, a3, a4, a5, a6, a7, a8, a9, a10, a11, a12, a13, a14, a15, a16, a17, a18, a19, a20, a21) 4096 4096 := by
  refine pk_loop (fun n i s => wX_enter_5 post 4096 4096 fr fc fl (nI N) fh fp fy (nI f) fn fa fo a1 a2 a3 a4 a5 a6 a7 a8 a9 a10 a11 a12 a13 a14 a15 a16 a17 a18 a19 a20 a21 n s (nI i)) (fun i s => ∃ m, m < 2 ^ i ∧ s = nI m) N 0 0 (by omega) ⟨0, by omega, rfl⟩ ?_ ?_
  · intro n s h
    obtain ⟨m, hm, e⟩ := h
    subst e
    have h12 : 2 ^ N ≤ 4096 := Nat.pow_le_pow_right (n := 2) (j := 12) (by omega) (by omega)
    refine pk_le N N (fun _ => pk_lt m 4096 (fun _ => nm_e (nm_e (nm_r (nI_1 f) (pk_eq (f + 1) 4096 (fun z => H1 _ _ _ z) (fun z => H0 _ _ _ z))))) (fun z => absurd z (by omega))) (fun z => absurd z (by omega))
  · intro n i s hi h hw
    obtain ⟨m, hm, e⟩ := h
    subst e
    obtain ⟨b, hb2, eb⟩ := hb i hi
    have h12 : 2 ^ i ≤ 4096 := Nat.pow_le_pow_right (n := 2) (j := 12) (by omega) (by omega)
    refine pk_le N i (fun z => absurd z (by omega)) (fun _ => ⟨pk_in i 12 (by omega), nm_r (e' := nI (m * 2 + b)) ?_ (nm_r (nI_1 i) (hw _ ⟨m * 2 + b, by rw [Nat.pow_succ]; omega, rfl⟩))⟩)
    rw [nI_clamp (by omega), eb, show (2 : Int32) = nI 2 from rfl, pk_mul, nI_add]
end
end
section
/-- how many of the digits v, v + 1, .. 1 fit in the cell i -/
def cw_c (P : Nat → Nat) (i v : Nat) : Nat := if P i = 2 then 2 - v else if v ≤ P i then 1 else 0
/-- fillings of the last k cells, and rounds that they take -/
def cw_F (P : Nat → Nat) (N : Nat) : Nat → Nat
  | 0 => 1
  | k + 1 => cw_c P (N - (k + 1)) 0 * cw_F P N k
def cw_T (P : Nat → Nat) (N : Nat) : Nat → Nat
  | 0 => 0
  | k + 1 => 3 + cw_c P (N - (k + 1)) 0 * cw_T P N k
/-- what is still to come behind a stack of k cells with the digits tr tried -/
def cw_rf (P : Nat → Nat) (N : Nat) (tr : Nat → Nat) : Nat → Nat
  | 0 => 0
  | k + 1 => cw_rf P N tr k + cw_c P k (tr k) * cw_F P N (N - (k + 1))
def cw_rt (P : Nat → Nat) (N : Nat) (tr : Nat → Nat) : Nat → Nat
  | 0 => 0
  | k + 1 => cw_rt P N tr k + (3 - tr k) + cw_c P k (tr k) * cw_T P N (N - (k + 1))
set_option maxRecDepth 100000 in
theorem cw_FN : ∀ N, N < 13 → ∀ q, q < 12 → ∀ v, v < 3 → cw_F (cw_pin q v) N N = 2 ^ (if v < 2 ∧ q < N then N - 1 else N) ∧ cw_T (cw_pin q v) N N < 20000 ∧ cw_F (cw_pin q v) N N ≤ 4096 := by decide +kernel
theorem cw_c2 (P : Nat → Nat) (i : Nat) (h : P i ≤ 2) : cw_c P i 2 = 0 := by
  unfold cw_c
  split
  · rfl
  · rw [if_neg (by omega)]
theorem cw_cy {P : Nat → Nat} {i v : Nat} (hv : v < 2) (h : P i = 2 ∨ P i = v) : cw_c P i v = cw_c P i (v + 1) + 1 := by
  unfold cw_c
  split
  · omega
  · rw [if_pos (by omega), if_neg (by omega)]
theorem cw_cn {P : Nat → Nat} {i v : Nat} (hv : v < 2) (hP : P i ≤ 2) (h : ¬ (P i = 2 ∨ P i = v)) : cw_c P i v = cw_c P i (v + 1) := by
  unfold cw_c
  have n2 : ¬ P i = 2 := fun z => h (Or.inl z)
  rw [if_neg n2, if_neg n2]
  by_cases e : v ≤ P i
  · rw [if_pos e, if_pos (by omega)]
  · rw [if_neg e, if_neg (by omega)]
theorem cw_rf_eq {P : Nat → Nat} {N : Nat} {tr tr' : Nat → Nat} : ∀ k, (∀ i, i < k → tr' i = tr i) → cw_rf P N tr' k = cw_rf P N tr k := by
  intro k
  induction k with
  | zero => exact fun _ => rfl
  | succ k ih =>
    intro h
    unfold cw_rf
    rw [ih (fun i hi => h i (by omega)), h k (by omega)]
theorem cw_rt_eq {P : Nat → Nat} {N : Nat} {tr tr' : Nat → Nat} : ∀ k, (∀ i, i < k → tr' i = tr i) → cw_rt P N tr' k = cw_rt P N tr k := by
  intro k
  induction k with
  | zero => exact fun _ => rfl
  | succ k ih =>
    intro h
    unfold cw_rt
    rw [ih (fun i hi => h i (by omega)), h k (by omega)]
/-- one cell of tr changed -/
def cw_set (tr : Nat → Nat) (k v i : Nat) : Nat := if i = k then v else tr i
theorem cw_set_s {tr : Nat → Nat} {k v : Nat} : cw_set tr k v k = v := if_pos rfl
theorem cw_set_n {tr : Nat → Nat} {k v i : Nat} (h : i ≠ k) : cw_set tr k v i = tr i := if_neg h
/-- the stack's invariant: k cells on it, x rounds done, f fillings found -/
def cw_I (P : Nat → Nat) (N k x f : Nat) (tr : Nat → Nat) (a18 a19 a20 a21 : Nat → Int32) : Prop := k ≤ N ∧ (∀ i, i < k → a19 i = nI (tr i) ∧ tr i ≤ 2) ∧ (∀ i, i + 1 < k → (∃ b, b < 2 ∧ a18 i = nI b) ∧ a20 i = nI 1 ∧ a21 i = nI 1) ∧ x + cw_rt P N tr k = cw_T P N N ∧ f + cw_rf P N tr k = cw_F P N N
/-- v = 2: the cell leaves the stack -/
theorem cw_I2 {P : Nat → Nat} {N k x f : Nat} {tr : Nat → Nat} {a18 a19 a20 a21 : Nat → Int32} (hP : P k ≤ 2) (h : cw_I P N (k + 1) x f tr a18 a19 a20 a21) (e : tr k = 2) : cw_I P N k (x + 1) f tr a18 a19 a20 a21 := by
  obtain ⟨g1, g2, g3, g4, g5⟩ := h
  unfold cw_rt at g4
  unfold cw_rf at g5
  rw [e, cw_c2 P k hP, Nat.zero_mul] at g4 g5
  exact ⟨by omega, fun i hi => g2 i (by omega), fun i hi => g3 i (by omega), by omega, by omega⟩
/-- the digit doesn't fit -/
theorem cw_In {P : Nat → Nat} {N k x f v : Nat} {tr : Nat → Nat} {a18 a19 a20 a21 : Nat → Int32} (hP : P k ≤ 2) (h : cw_I P N (k + 1) x f tr a18 a19 a20 a21) (e : tr k = v) (hv : v < 2) (hn : ¬ (P k = 2 ∨ P k = v)) : cw_I P N (k + 1) (x + 1) f (cw_set tr k (v + 1)) a18 (upd a19 k (nI (v + 1))) a20 a21 := by
  obtain ⟨g1, g2, g3, g4, g5⟩ := h
  refine ⟨g1, fun i hi => ?_, g3, ?_, ?_⟩
  · by_cases z : i = k
    · rw [z, pk_us, cw_set_s]
      exact ⟨rfl, by omega⟩
    · rw [pk_un z, cw_set_n z]
      exact g2 i hi
  · unfold cw_rt at g4 ⊢
    rw [cw_rt_eq (tr := tr) k (fun i hi => cw_set_n (by omega)), cw_set_s, ← cw_cn hv hP hn]
    rw [e] at g4
    omega
  · unfold cw_rf at g5 ⊢
    rw [cw_rf_eq (tr := tr) k (fun i hi => cw_set_n (by omega)), cw_set_s, ← cw_cn hv hP hn]
    rw [e] at g5
    exact g5
/-- the digit fits, and more cells stand behind it -/
theorem cw_Id {P : Nat → Nat} {N k x f v : Nat} {tr : Nat → Nat} {a18 a19 a20 a21 : Nat → Int32} (h : cw_I P N (k + 1) x f tr a18 a19 a20 a21) (e : tr k = v) (hv : v < 2) (hy : P k = 2 ∨ P k = v) (hk : k + 1 < N) :
    cw_I P N (k + 2) (x + 1) f (cw_set (cw_set tr k (v + 1)) (k + 1) 0) (upd a18 k (nI v)) (upd (upd a19 k (nI (v + 1))) (k + 1) (nI 0)) (upd a20 k (nI 1)) (upd a21 k (nI 1)) := by
  obtain ⟨g1, g2, g3, g4, g5⟩ := h
  refine ⟨by omega, fun i hi => ?_, fun i hi => ?_, ?_, ?_⟩
  · by_cases z : i = k + 1
    · rw [z, pk_us, cw_set_s]
      exact ⟨rfl, by omega⟩
    · rw [pk_un z, cw_set_n z]
      by_cases y : i = k
      · rw [y, pk_us, cw_set_s]
        exact ⟨rfl, by omega⟩
      · rw [pk_un y, cw_set_n y]
        exact g2 i (by omega)
  · by_cases y : i = k
    · rw [y, pk_us, pk_us, pk_us]
      exact ⟨⟨v, hv, rfl⟩, rfl, rfl⟩
    · rw [pk_un y, pk_un y, pk_un y]
      exact g3 i (by omega)
  · have t : cw_T P N (N - (k + 1)) = 3 + cw_c P (k + 1) 0 * cw_T P N (N - (k + 2)) := by
      rw [show N - (k + 1) = N - (k + 2) + 1 by omega, show cw_T P N (N - (k + 2) + 1) = 3 + cw_c P (N - (N - (k + 2) + 1)) 0 * cw_T P N (N - (k + 2)) from rfl, show N - (N - (k + 2) + 1) = k + 1 by omega]
    show x + 1 + (cw_rt P N _ k + (3 - cw_set _ _ _ k) + cw_c P k (cw_set _ _ _ k) * cw_T P N (N - (k + 1)) + (3 - cw_set _ _ _ (k + 1)) + cw_c P (k + 1) (cw_set _ _ _ (k + 1)) * cw_T P N (N - (k + 2))) = _
    rw [cw_rt_eq (tr := tr) k (fun i hi => by rw [cw_set_n (by omega), cw_set_n (by omega)]), cw_set_s, cw_set_n (show k ≠ k + 1 by omega), cw_set_s]
    unfold cw_rt at g4
    rw [e, cw_cy hv hy, Nat.succ_mul] at g4
    omega
  · have t : cw_F P N (N - (k + 1)) = cw_c P (k + 1) 0 * cw_F P N (N - (k + 2)) := by
      rw [show N - (k + 1) = N - (k + 2) + 1 by omega, show cw_F P N (N - (k + 2) + 1) = cw_c P (N - (N - (k + 2) + 1)) 0 * cw_F P N (N - (k + 2)) from rfl, show N - (N - (k + 2) + 1) = k + 1 by omega]
    show f + (cw_rf P N _ k + cw_c P k (cw_set _ _ _ k) * cw_F P N (N - (k + 1)) + cw_c P (k + 1) (cw_set _ _ _ (k + 1)) * cw_F P N (N - (k + 2))) = _
    rw [cw_rf_eq (tr := tr) k (fun i hi => by rw [cw_set_n (by omega), cw_set_n (by omega)]), cw_set_s, cw_set_n (show k ≠ k + 1 by omega), cw_set_s]
    unfold cw_rf at g5
    rw [e, cw_cy hv hy, Nat.succ_mul] at g5
    omega
/-- the digit fits in the last cell -/
theorem cw_Ie {P : Nat → Nat} {N k x f v : Nat} {tr : Nat → Nat} {a18 a19 a20 a21 : Nat → Int32} (h : cw_I P N (k + 1) x f tr a18 a19 a20 a21) (e : tr k = v) (hv : v < 2) (hy : P k = 2 ∨ P k = v) (hk : k + 1 = N) :
    cw_I P N (k + 1) (x + 1) (f + 1) (cw_set tr k (v + 1)) (upd a18 k (nI v)) (upd a19 k (nI (v + 1))) (upd a20 k (nI 1)) (upd a21 k (nI 1)) := by
  obtain ⟨g1, g2, g3, g4, g5⟩ := h
  refine ⟨by omega, fun i hi => ?_, fun i hi => ?_, ?_, ?_⟩
  · by_cases y : i = k
    · rw [y, pk_us, cw_set_s]
      exact ⟨rfl, by omega⟩
    · rw [pk_un y, cw_set_n y]
      exact g2 i (by omega)
  · rw [pk_un (by omega), pk_un (by omega), pk_un (by omega)]
    exact g3 i (by omega)
  · unfold cw_rt at g4 ⊢
    rw [cw_rt_eq (tr := tr) k (fun i hi => cw_set_n (by omega)), cw_set_s]
    rw [e, cw_cy hv hy, Nat.succ_mul, hk, Nat.sub_self, show cw_T P N 0 = 0 from rfl] at g4
    rw [hk, Nat.sub_self, show cw_T P N 0 = 0 from rfl]
    omega
  · unfold cw_rf at g5 ⊢
    rw [cw_rf_eq (tr := tr) k (fun i hi => cw_set_n (by omega)), cw_set_s]
    rw [e, cw_cy hv hy, Nat.succ_mul, hk, Nat.sub_self, show cw_F P N 0 = 1 from rfl] at g5
    rw [hk, Nat.sub_self, show cw_F P N 0 = 1 from rfl]
    omega
theorem cw_I_pos {P : Nat → Nat} {N k x f : Nat} {tr : Nat → Nat} {a18 a19 a20 a21 : Nat → Int32} (h : cw_I P N (k + 1) x f tr a18 a19 a20 a21) : x < cw_T P N N := by
  obtain ⟨g1, g2, g3, g4, g5⟩ := h
  have := (g2 k (by omega)).2
  unfold cw_rt at g4
  omega
theorem cw_I_start {P : Nat → Nat} {N : Nat} {a18 a19 a20 a21 : Nat → Int32} (hN : 0 < N) : cw_I P N 1 0 0 (fun _ => 0) a18 (upd a19 0 (nI 0)) a20 a21 := by
  obtain ⟨M, rfl⟩ : ∃ M, N = M + 1 := ⟨N - 1, by omega⟩
  refine ⟨by omega, fun i hi => ?_, fun i hi => absurd hi (by omega), ?_, ?_⟩
  · rw [show i = 0 by omega, pk_us]
    exact ⟨rfl, Nat.zero_le 2⟩
  · show 0 + (0 + (3 - 0) + cw_c P 0 0 * cw_T P (M + 1) (M + 1 - (0 + 1))) = 3 + cw_c P (M + 1 - (M + 1)) 0 * cw_T P (M + 1) M
    rw [Nat.sub_self, show M + 1 - (0 + 1) = M by omega]
    omega
  · show 0 + (0 + cw_c P 0 0 * cw_F P (M + 1) (M + 1 - (0 + 1))) = cw_c P (M + 1 - (M + 1)) 0 * cw_F P (M + 1) M
    rw [Nat.sub_self, show M + 1 - (0 + 1) = M by omega]
    omega
end
section
section
variable {fr fc fl fe fh fp fy ff fn fa fo : Int32} {a1 a2 a3 a4 a5 a6 a7 a8 a9 a10 a11 a12 a13 a14 a15 a16 a17 a18 a19 a20 a21 : Nat → Int32}
/-- the search's loop -/
theorem cw_49 {post : St2 → Prop} {R C : Nat} {P : Nat → Nat} (hD : cw_D R C) (hM : cw_M (R + C) a11 a12 a13 a14 a15 a16) (hP : cw_P (R * C) P a3) (hB : cw_B R C (R + C) a17) (hG : cw_G R C a1 a2)
    (hT : cw_T P (R * C) (R * C) < 20000) (hF : cw_F P (R * C) (R * C) ≤ 4096)
    (H : ∀ (x y z : Int32) (s18 s19 s20 s21 : Nat → Int32), post (nI R, nI C, nI (R + C), nI (R * C), fh, fp, fy, nI (cw_F P (R * C) (R * C)), x, y, z, a1, a2, a3, a4, a5, a6, a7, a8, a9, a10, a11, a12, a13, a14, a15, a16, a17, s18, s19, s20, s21)) :
    ∃ n, wX_scan_49 post 4096 4096 n 0 0 0 (nI R) (nI C) (nI (R + C)) (nI (R * C)) fh fp fy 0 fn fa fo a1 a2 a3 a4 a5 a6 a7 a8 a9 a10 a11 a12 a13 a14 a15 a16 a17 a18 (upd a19 0 0) a20 a21 := by
  have hN := cw_N12 hD
  have hN0 := cw_N0 hD
  refine lp11 (fun n x3 x4 x5 ff fn fa fo a18 a19 a20 a21 => wX_scan_49 post 4096 4096 n x3 x4 x5 (nI R) (nI C) (nI (R + C)) (nI (R * C)) fh fp fy ff fn fa fo a1 a2 a3 a4 a5 a6 a7 a8 a9 a10 a11 a12 a13 a14 a15 a16 a17 a18 a19 a20 a21)
    (fun x3 x4 x5 ff fn fa fo a18 a19 a20 a21 => ∃ (k x f : Nat) (tr : Nat → Nat), x3 = nI k - 1 ∧ x5 = nI x ∧ ff = nI f ∧ cw_I P (R * C) k x f tr a18 a19 a20 a21 ∧ (x4 = 0 ∨ (x4 = 1 ∧ f = 4096)))
    (fun x3 x4 x5 ff fn fa fo a18 a19 a20 a21 => 20000 - x5.toNatClampNeg) ?_ 0 0 0 0 fn fa fo a18 (upd a19 0 0) a20 a21 ⟨1, 0, 0, fun _ => 0, rfl, rfl, rfl, cw_I_start hN0, Or.inl rfl⟩
  intro n x3 x4 x5 ff fn fa fo a18 a19 a20 a21 hI hk
  obtain ⟨k, x, f, tr, e3, e5, ef, hi, ho⟩ := hI
  subst e5 ef
  have hx : x < 20000 := by
    have := hi.2.2.2.1
    omega
  have hμ : 20000 - (nI (x + 1)).toNatClampNeg < 20000 - (nI x).toNatClampNeg := by
    rw [nI_clamp (by omega), nI_clamp (by omega)]
    omega
  cases k with
  | zero =>
    subst e3
    have hf : f = cw_F P (R * C) (R * C) := hi.2.2.2.2
    subst hf
    exact pk_le 20000 x (fun z => absurd z (by omega)) (fun _ => br_t (by decide) (H _ _ _ _ _ _ _))
  | succ k =>
    rw [nI_pred] at e3
    subst e3
    have hkN : k < R * C := hi.1
    obtain ⟨t1, t2⟩ := hi.2.1 k (by omega)
    have hPk := (hP k hkN).2
    refine pk_le 20000 x (fun z => absurd z (by omega)) (fun _ => br_f (nI_pos (by omega)) ?_)
    rcases ho with ho | ⟨ho, hf⟩
    · subst ho
      refine br_t rfl ⟨pk_in k 12 (by omega), nm_r (e' := nI (tr k)) (by rw [nI_clamp (by omega)]; exact t1) ?_⟩
      refine pk_eq (tr k) 2 (fun z => nm_r (Int32.sub_eq_add_neg _ _).symm (nm_r (nI_1 x) (hk _ _ _ _ _ _ _ _ _ _ _ ⟨k, x + 1, f, tr, rfl, rfl, rfl, cw_I2 hPk hi z, Or.inl rfl⟩ hμ))) (fun z => ⟨pk_in k 12 (by omega), nm_r (cw_u rfl (by omega) (nI_1 (tr k)) rfl) ?_⟩)
      have hv : tr k < 2 := by omega
      refine cw_place hD hM hP hB hG hkN hv (fun i hi' => (hi.2.2.1 i (by omega)).2.1) (fun i hi' => (hi.2.2.1 i (by omega)).2.2) (fun hy => ?_) (fun hn => ?_)
      · refine br_f (by decide) (pk_eq k (R * C - 1) (fun ek => ?_) (fun ek => ?_) rfl (pk_sub (b := 1) (by omega)))
        · have hE := cw_Ie hi rfl hv hy (by omega)
          have hf : f < 4096 := by
            have := hE.2.2.2.2
            omega
          refine cw_enter (N := R * C) (f := f) hN hf (fun i hi' => ?_) (fun _ _ _ z => ?_) (fun _ _ _ z => ?_)
          · by_cases ei : i = k
            · rw [ei, pk_us]
              exact ⟨tr k, hv, rfl⟩
            · rw [pk_un ei]
              exact (hi.2.2.1 i (by omega)).1
          · exact nm_r (nI_1 x) (hk _ _ _ _ _ _ _ _ _ _ _ ⟨k + 1, x + 1, f + 1, _, (nI_pred k).symm, rfl, rfl, hE, Or.inr ⟨rfl, z⟩⟩ hμ)
          · exact nm_r (nI_1 x) (hk _ _ _ _ _ _ _ _ _ _ _ ⟨k + 1, x + 1, f + 1, _, (nI_pred k).symm, rfl, rfl, hE, Or.inl rfl⟩ hμ)
        · have hE := cw_Id hi rfl hv hy (by omega)
          exact br_f (by decide) (nm_r (nI_1 k) ⟨pk_in (k + 1) 12 (by omega), nm_r (cw_u rfl (by omega) rfl rfl) (nm_r (nI_1 x) (hk _ _ _ _ _ _ _ _ _ _ _ ⟨k + 2, x + 1, f, _, (nI_pred (k + 1)).symm, rfl, rfl, hE, Or.inl rfl⟩ hμ))⟩)
      · have hE := cw_In hPk hi rfl hv hn
        exact br_t rfl (br_t rfl (nm_r (nI_1 x) (hk _ _ _ _ _ _ _ _ _ _ _ ⟨k + 1, x + 1, f, _, (nI_pred k).symm, rfl, rfl, hE, Or.inl rfl⟩ hμ)))
    · have e : f = cw_F P (R * C) (R * C) := by
        have := hi.2.2.2.2
        omega
      subst e ho
      exact br_f (by decide) (H _ _ _ _ _ _ _)
/-- fillings -/
theorem cw_fillings {post : Int32 → St2 → Prop} {R C : Nat} {P : Nat → Nat} (hD : cw_D R C) (hM : cw_M (R + C) a11 a12 a13 a14 a15 a16) (hP : cw_P (R * C) P a3) (hr : fy = 0 ∨ cw_B R C (R + C) a17) (hG : cw_G R C a1 a2)
    (hT : cw_T P (R * C) (R * C) < 20000) (hF : cw_F P (R * C) (R * C) ≤ 4096)
    (H : ∀ (y x1 x2 x3 x4 : Int32) (s17 s18 s19 s20 s21 : Nat → Int32), post (nI (cw_F P (R * C) (R * C))) (nI R, nI C, nI (R + C), nI (R * C), fh, fp, y, x1, x2, x3, x4, a1, a2, a3, a4, a5, a6, a7, a8, a9, a10, a11, a12, a13, a14, a15, a16, s17, s18, s19, s20, s21)) : wpX_fillings post (nI R, nI C, nI (R + C), nI (R * C), fh, fp, fy, ff, fn, fa, fo, a1, a2, a3, a4, a5, a6, a7, a8, a9, a10, a11, a12, a13, a14, a15, a16, a17, a18, a19, a20, a21) := by
  unfold wpX_fillings wpX_scan
  refine cw_prepare (P := P) hD hM hP hr (fun y s hs => nm_e (br_t (by decide) ?_))
  exact cw_49 (P := P) hD hM hP hs hG hT hF (fun _ _ _ _ _ _ _ => H _ _ _ _ _ _ _ _ _ _)
end
end
section
section
variable {fr fc fl fe fh fp fy ff fn fa fo : Int32} {a1 a2 a3 a4 a5 a6 a7 a8 a9 a10 a11 a12 a13 a14 a15 a16 a17 a18 a19 a20 a21 : Nat → Int32}
theorem cw_anyWord {post : St2 → Prop} {l : Nat} (hl : l < 7)
    (H : ∀ s : Nat → Int32, (∀ p, p < 8 → s (l * 8 + p) = nI (if p = 0 then 1 else 0)) → (∀ j, j < l * 8 → s j = a16 j) → post (fr, fc, fl, fe, fh, fp, 0, ff, fn, fa, fo, a1, a2, a3, a4, a5, a6, a7, a8, a9, a10, upd a11 l (nI 1), upd a12 l (nI 1), upd a13 l (nI 1), upd a14 l (nI 1), upd a15 l (nI 1), s, a17, a18, a19, a20, a21)) : wpX_anyWord post (fr, fc, fl, fe, fh, fp, fy, ff, fn, fa, fo, a1, a2, a3, a4, a5, a6, a7, a8, a9, a10, a11, a12, a13, a14, a15, a16, a17, a18, a19, a20, a21) (nI l) := by
  have e8 : nI l * 8 = nI (l * 8) := pk_mul l 8
  refine ⟨pk_in l 7 hl, nm_r (cw_u rfl (by omega) rfl rfl) ⟨pk_in l 7 hl, nm_r (cw_u rfl (by omega) rfl rfl) ⟨pk_in l 7 hl, nm_r (cw_u rfl (by omega) rfl rfl) ⟨pk_in l 7 hl, nm_r (cw_u rfl (by omega) rfl rfl) ⟨pk_in l 7 hl, nm_r (cw_u rfl (by omega) rfl rfl) ?_⟩⟩⟩⟩⟩
  refine pk_loop (fun n i s => wX_anyWord_37 post (nI l) fr fc fl fe fh fp fy ff fn fa fo n (nI i) a1 a2 a3 a4 a5 a6 a7 a8 a9 a10 (upd a11 l (nI 1)) (upd a12 l (nI 1)) (upd a13 l (nI 1)) (upd a14 l (nI 1)) (upd a15 l (nI 1)) s a17 a18 a19 a20 a21) (fun i s => (∀ p, p < i → s (l * 8 + p) = nI 0) ∧ (∀ j, j < l * 8 → s j = a16 j)) 8 0 a16 (by omega) ⟨fun p hp => absurd hp (by omega), fun _ _ => rfl⟩ ?_ ?_
  · intro n s h
    refine pk_le 8 8 (fun _ => ⟨pk_in (l * 8) 56 (by omega) e8, nm_r (cw_u e8 (by omega) rfl rfl) (H (upd s (l * 8) (nI 1)) (fun p hp => ?_) (fun j hj => ?_))⟩) (fun z => absurd z (by omega))
    · by_cases e : p = 0
      · rw [e, if_pos rfl]
        exact pk_us
      · rw [pk_un (by omega), if_neg e]
        exact h.1 p hp
    · rw [pk_un (by omega)]
      exact h.2 j hj
  · intro n i s hi h hw
    refine pk_le 8 i (fun z => absurd z (by omega)) (fun _ => ⟨pk_in (l * 8 + i) 56 (by omega) (cw_ix8 l i), nm_r (cw_u (cw_ix8 l i) (by omega) rfl rfl) (nm_r (nI_1 i) (hw (upd s (l * 8 + i) (nI 0)) ⟨fun p hp => ?_, fun j hj => ?_⟩))⟩)
    · by_cases e : p = i
      · rw [e, pk_us]
      · rw [pk_un (by omega)]
        exact h.1 p (by omega)
    · rw [pk_un (by omega)]
      exact h.2 j hj
theorem cw_302 {post : St2 → Prop} {mc ms kc ks : Nat} {R C : Nat} (hD : cw_D R C)
    (H : ∀ s11 s12 s13 s14 s15 s16 : Nat → Int32, cw_M (R + C) s11 s12 s13 s14 s15 s16 → post (nI R, nI C, nI (R + C), nI (R * C), fh, fp, 0, ff, fn, fa, fo, a1, a2, a3, a4, a5, a6, a7, a8, a9, a10, s11, s12, s13, s14, s15, s16, a17, a18, a19, a20, a21)) :
    ∃ n, wX_init_302 post mc ms (nI R) (nI C) kc ks n 0 (nI R) (nI C) (nI (R + C)) (nI (R * C)) fh fp 0 ff fn fa fo a1 a2 a3 a4 a5 a6 a7 a8 a9 a10 a11 a12 a13 a14 a15 a16 a17 a18 a19 a20 a21 := by
  have hD' := hD
  obtain ⟨h1, h2, h3, h4⟩ := hD'
  refine pk_loop (σ := (Nat → Int32) × (Nat → Int32) × (Nat → Int32) × (Nat → Int32) × (Nat → Int32) × (Nat → Int32)) (fun n i s => wX_init_302 post mc ms (nI R) (nI C) kc ks n (nI i) (nI R) (nI C) (nI (R + C)) (nI (R * C)) fh fp 0 ff fn fa fo a1 a2 a3 a4 a5 a6 a7 a8 a9 a10 (s.1) (s.2.1) (s.2.2.1) (s.2.2.2.1) (s.2.2.2.2.1) (s.2.2.2.2.2) a17 a18 a19 a20 a21) (fun i s => cw_M i s.1 s.2.1 s.2.2.1 s.2.2.2.1 s.2.2.2.2.1 s.2.2.2.2.2) (R + C) 0 (a11, a12, a13, a14, a15, a16) (by omega) (fun l hl => absurd hl (by omega)) ?_ ?_
  · intro n s h
    exact pk_le (R + C) (R + C) (fun _ => H _ _ _ _ _ _ h) (fun z => absurd z (by omega)) (nI_add R C) rfl
  · intro n i s hi h hw
    refine pk_le (R + C) i (fun z => absurd z (by omega)) (fun _ => cw_anyWord (l := i) (by omega) (fun t g1 g2 => nm_r (nI_1 i) (hw (_, _, _, _, _, t) ?_))) (nI_add R C) rfl
    intro l hl
    by_cases e : l = i
    · subst e
      exact ⟨pk_us, pk_us, pk_us, pk_us, pk_us, g1⟩
    · obtain ⟨q1, q2, q3, q4, q5, q6⟩ := h l (by omega)
      exact ⟨(pk_un e).trans q1, (pk_un e).trans q2, (pk_un e).trans q3, (pk_un e).trans q4, (pk_un e).trans q5, fun p hp => (g2 _ (by omega)).trans (q6 p hp)⟩
/-- the cells below m are made -/
def cw_K (C m : Nat) (s1 s2 s3 : Nat → Int32) : Prop := ∀ d, d < m → s1 d = nI (d / C) ∧ s2 d = nI (d % C) ∧ s3 d = nI 2
theorem cw_K_add {R C i j : Nat} {s1 s2 s3 : Nat → Int32} (hD : cw_D R C) (hi : i < R) (hj : j < C) (h : cw_K C (i * C + j) s1 s2 s3) : cw_K C (i * C + (j + 1)) (upd s1 (i * C + j) (nI i)) (upd s2 (i * C + j) (nI j)) (upd s3 (i * C + j) (nI 2)) := by
  intro d hd
  by_cases e : d = i * C + j
  · obtain ⟨q1, q2⟩ := cw_t5 R hD.2.1 C hD.2.2.2 i hi j hj
    rw [e, pk_us, pk_us, pk_us, q1, q2]
    exact ⟨rfl, rfl, rfl⟩
  · rw [pk_un e, pk_un e, pk_un e]
    exact h d (by omega)
theorem cw_242 {post : St2 → Prop} {mc ms kc ks : Nat} {R C : Nat} (hD : cw_D R C)
    (H : ∀ s1 s2 s3 s11 s12 s13 s14 s15 s16 : Nat → Int32, cw_K C (R * C) s1 s2 s3 → cw_M (R + C) s11 s12 s13 s14 s15 s16 → post (nI R, nI C, nI (R + C), nI (R * C), fh, fp, 0, ff, fn, fa, fo, s1, s2, s3, a4, a5, a6, a7, a8, a9, a10, s11, s12, s13, s14, s15, s16, a17, a18, a19, a20, a21)) :
    ∃ n, wX_init_242 post mc ms (nI R) (nI C) kc ks (nI R) (nI C) (nI (R + C)) (nI (R * C)) fh fp 0 ff fn fa fo n 0 0 a1 a2 a3 a4 a5 a6 a7 a8 a9 a10 a11 a12 a13 a14 a15 a16 a17 a18 a19 a20 a21 := by
  have hD' := hD
  obtain ⟨h1, h2, h3, h4⟩ := hD'
  have hN := cw_N12 hD
  refine Exists.elim (pk_loop (σ := (Nat → Int32) × (Nat → Int32) × (Nat → Int32)) (fun n i s => wX_init_242 post mc ms (nI R) (nI C) kc ks (nI R) (nI C) (nI (R + C)) (nI (R * C)) fh fp 0 ff fn fa fo n (nI (i * C)) (nI i) (s.1) (s.2.1) (s.2.2) a4 a5 a6 a7 a8 a9 a10 a11 a12 a13 a14 a15 a16 a17 a18 a19 a20 a21) (fun i s => cw_K C (i * C) s.1 s.2.1 s.2.2) R 0 (a1, a2, a3) (by omega) (fun d hd => absurd hd (by omega)) ?_ ?_) (fun n hn => ⟨n, ?_⟩)
  · intro n s h
    exact pk_le R R (fun _ => cw_302 hD (fun _ _ _ _ _ _ hM => H _ _ _ _ _ _ _ _ _ h hM)) (fun z => absurd z (by omega))
  · intro n i s hi h hw
    refine pk_le R i (fun z => absurd z (by omega)) (fun _ => ?_)
    refine pk_loop (σ := (Nat → Int32) × (Nat → Int32) × (Nat → Int32)) (fun m j t => wX_init_251 post mc ms (wX_init_242 post mc ms (nI R) (nI C) kc ks (nI R) (nI C) (nI (R + C)) (nI (R * C)) fh fp 0 ff fn fa fo n) (nI R) (nI C) (nI i) kc ks (nI R) (nI C) (nI (R + C)) (nI (R * C)) fh fp 0 ff fn fa fo m (nI (i * C + j)) (nI j) (t.1) (t.2.1) (t.2.2) a4 a5 a6 a7 a8 a9 a10 a11 a12 a13 a14 a15 a16 a17 a18 a19 a20 a21) (fun j t => cw_K C (i * C + j) t.1 t.2.1 t.2.2) C 0 s (by omega) h ?_ ?_
    · intro m t g
      refine pk_le C C (fun _ => nm_r (nI_1 i) ?_) (fun z => absurd z (by omega))
      have w := hw t (by rw [Nat.succ_mul]; exact g)
      rw [Nat.succ_mul] at w
      exact w
    · intro m j t hj g gw
      have hd := cw_t4 R h2 C h4 i hi j hj
      exact pk_le C j (fun z => absurd z (by omega)) (fun _ => ⟨pk_in (i * C + j) 12 (by omega), nm_r (cw_u rfl (by omega) rfl rfl) ⟨pk_in (i * C + j) 12 (by omega), nm_r (cw_u rfl (by omega) rfl rfl) ⟨pk_in (i * C + j) 12 (by omega), nm_r (cw_u rfl (by omega) rfl rfl) (nm_r (nI_1 _) (nm_r (nI_1 j) (gw (_, _, _) (cw_K_add hD hi hj g))))⟩⟩⟩)
  · have hn' : wX_init_242 post mc ms (nI R) (nI C) kc ks (nI R) (nI C) (nI (R + C)) (nI (R * C)) fh fp 0 ff fn fa fo n (nI (0 * C)) (nI 0) a1 a2 a3 a4 a5 a6 a7 a8 a9 a10 a11 a12 a13 a14 a15 a16 a17 a18 a19 a20 a21 := hn
    rw [Nat.zero_mul] at hn'
    exact hn'
/-- what the clamp makes of an int -/
def cw_cl (p : Int32) (M R : Nat) : Prop := 1 ≤ R ∧ R ≤ M ∧ (1 ≤ p → p ≤ nI M → p = nI R) ∧ (1 ≤ p → ¬ p ≤ nI M → R = M) ∧ (¬ 1 ≤ p → R = 1)
theorem cw_cl_ex (p : Int32) (M : Nat) (h1 : 1 ≤ M) (hM : M < 2 ^ 31) : ∃ R, cw_cl p M R := by
  by_cases a : 1 ≤ p
  · by_cases b : p ≤ nI M
    · have a0 : ¬ p < 0 := by
        rw [Int32.lt_iff_toInt_lt]
        rw [Int32.le_iff_toInt_le] at a
        have e1 : (1 : Int32).toInt = 1 := by decide
        have e0 : (0 : Int32).toInt = 0 := by decide
        omega
      obtain ⟨j, hj, e⟩ := nI_of2 (nI_toInt hM) a0 b
      refine ⟨j, ?_, hj, fun _ _ => e, fun _ z => absurd b z, fun z => absurd a z⟩
      rw [e] at a
      exact (nI_leI (a := 1) (by omega) (by omega)).mp a
    · exact ⟨M, h1, Nat.le_refl M, fun _ z => absurd z b, fun _ _ => rfl, fun z => absurd a z⟩
  · exact ⟨1, Nat.le_refl 1, h1, fun z => absurd z a, fun z => absurd z a, fun _ => rfl⟩
theorem cw_209 {post : St2 → Prop} {mc ms kc ks : Nat} {R C : Nat} (hD : cw_D R C)
    (H : ∀ s1 s2 s3 s11 s12 s13 s14 s15 s16 : Nat → Int32, cw_K C (R * C) s1 s2 s3 → cw_M (R + C) s11 s12 s13 s14 s15 s16 → post (nI R, nI C, nI (R + C), nI (R * C), fh, fp, 0, ff, fn, fa, fo, s1, s2, s3, a4, a5, a6, a7, a8, a9, a10, s11, s12, s13, s14, s15, s16, a17, a18, a19, a20, a21)) :
    wX_init_209 post mc ms (nI R) (nI C) kc ks fr fc fl fe fh fp 0 ff fn fa fo a1 a2 a3 a4 a5 a6 a7 a8 a9 a10 a11 a12 a13 a14 a15 a16 a17 a18 a19 a20 a21 :=
  nm_r (nI_add R C) (nm_r (pk_mul R C) (cw_242 hD H))
theorem cw_188 {post : St2 → Prop} {mc ms kc ks : Nat} {R C : Nat} {p1 : Int32} (hD : cw_D R C) (hc : cw_cl p1 4 C)
    (H : ∀ s1 s2 s3 s11 s12 s13 s14 s15 s16 : Nat → Int32, cw_K C (R * C) s1 s2 s3 → cw_M (R + C) s11 s12 s13 s14 s15 s16 → post (nI R, nI C, nI (R + C), nI (R * C), fh, fp, 0, ff, fn, fa, fo, s1, s2, s3, a4, a5, a6, a7, a8, a9, a10, s11, s12, s13, s14, s15, s16, a17, a18, a19, a20, a21)) :
    wX_init_188 post mc ms p1 (nI R) kc ks fr fc fl fe fh fp 0 ff fn fa fo a1 a2 a3 a4 a5 a6 a7 a8 a9 a10 a11 a12 a13 a14 a15 a16 a17 a18 a19 a20 a21 := by
  have key : wX_init_209 post mc ms (nI R) (nI C) kc ks fr fc fl fe fh fp 0 ff fn fa fo a1 a2 a3 a4 a5 a6 a7 a8 a9 a10 a11 a12 a13 a14 a15 a16 a17 a18 a19 a20 a21 := cw_209 hD H
  obtain ⟨c1, c2, c3, c4, c5⟩ := hc
  refine br_c (fun a => br_c (fun b => ?_) (fun b => ?_)) (fun a => br_t (by decide) ?_)
  · rw [c3 a b]
    exact key
  · rw [c4 a b] at key
    exact key
  · rw [c5 a] at key
    exact key
/-- the constructor -/
theorem cw_init {post : St2 → Prop} {R C : Nat} {p0 p1 : Int32} (hD : cw_D R C) (hr : cw_cl p0 3 R) (hc : cw_cl p1 4 C)
    (H : ∀ s1 s2 s3 s11 s12 s13 s14 s15 s16 : Nat → Int32, cw_K C (R * C) s1 s2 s3 → cw_M (R + C) s11 s12 s13 s14 s15 s16 → post (nI R, nI C, nI (R + C), nI (R * C), 0, 0, 0, 0, 0, 0, 0, s1, s2, s3, fun _ => 0, fun _ => 0, fun _ => 0, fun _ => 0, fun _ => 0, fun _ => 0, fun _ => 0, s11, s12, s13, s14, s15, s16, fun _ => 0, fun _ => 0, fun _ => 0, fun _ => 0, fun _ => 0)) :
    wpX_init post 21 258 (0, 0, 0, 0, 0, 0, 0, 0, 0, 0, 0) p0 p1 := by
  have key : wX_init_188 post 21 258 p1 (nI R) 21 258 0 0 0 0 0 0 0 0 0 0 0 (fun _ => 0) (fun _ => 0) (fun _ => 0) (fun _ => 0) (fun _ => 0) (fun _ => 0) (fun _ => 0) (fun _ => 0) (fun _ => 0) (fun _ => 0) (fun _ => 0) (fun _ => 0) (fun _ => 0) (fun _ => 0) (fun _ => 0) (fun _ => 0) (fun _ => 0) (fun _ => 0) (fun _ => 0) (fun _ => 0) (fun _ => 0) := cw_188 hD hc H
  obtain ⟨c1, c2, c3, c4, c5⟩ := hr
  refine ⟨by decide, by decide, by decide, by decide, by decide, by decide, by decide, by decide, by decide, by decide, by decide, by decide, by decide, by decide, by decide, by decide, by decide, by decide, by decide, by decide, by decide, by decide, by decide, by decide, by decide, by decide, by decide, by decide, by decide, by decide, by decide, by decide, by decide, by decide, by decide, by decide, by decide, by decide, by decide, by decide, by decide, by decide, ?_⟩
  refine br_c (fun a => br_c (fun b => ?_) (fun b => ?_)) (fun a => br_t (by decide) ?_)
  · rw [c3 a b]
    exact key
  · rw [c4 a b] at key
    exact key
  · rw [c5 a] at key
    exact key
end
end
section
section
variable {fr fc fl fe fh fp fy ff fn fa fo : Int32} {a1 a2 a3 a4 a5 a6 a7 a8 a9 a10 a11 a12 a13 a14 a15 a16 a17 a18 a19 a20 a21 : Nat → Int32}
/-- outside of the grid, of the lines -/
def cw_out (R C : Nat) (x y : Int32) : Prop := x < 0 ∨ nI R ≤ x ∨ y < 0 ∨ nI C ≤ y
def cw_nol (R C : Nat) (x : Int32) : Prop := x < 0 ∨ nI (R + C) ≤ x
theorem cw_grid_t {post : Int32 → Prop} {R C r c : Nat} (hD : cw_D R C) (hr : r < R) (hc : c < C) (H : post 1) : wpX_inGrid post (nI R, nI C, fl, fe, fh, fp, fy, ff, fn, fa, fo, a1, a2, a3, a4, a5, a6, a7, a8, a9, a10, a11, a12, a13, a14, a15, a16, a17, a18, a19, a20, a21) (nI r) (nI c) := by
  obtain ⟨h1, h2, h3, h4⟩ := hD
  exact br_f (nI_pos (by omega)) (br_f (nI_ge hr (by omega)) (br_f (nI_pos (by omega)) (br_f (nI_ge hc (by omega)) H)))
theorem cw_grid_f {post : Int32 → Prop} {R C : Nat} {x y : Int32} (h : cw_out R C x y) (H : post 0) : wpX_inGrid post (nI R, nI C, fl, fe, fh, fp, fy, ff, fn, fa, fo, a1, a2, a3, a4, a5, a6, a7, a8, a9, a10, a11, a12, a13, a14, a15, a16, a17, a18, a19, a20, a21) x y :=
  br_c (fun _ => H) (fun a => br_c (fun _ => H) (fun b => br_c (fun _ => H) (fun c => br_c (fun _ => H) (fun d => (h.elim a (fun h => h.elim b (fun h => h.elim c d))).elim))))
theorem cw_ixg (r C c : Nat) : nI r * nI C + nI c = nI (r * C + c) := by
  rw [pk_mul, nI_add]
theorem cw_pinned_t {post : Int32 → Prop} {R C r c : Nat} (hD : cw_D R C) (hr : r < R) (hc : c < C) (H : post (a3 (r * C + c))) : wpX_pinned post (nI R, nI C, fl, fe, fh, fp, fy, ff, fn, fa, fo, a1, a2, a3, a4, a5, a6, a7, a8, a9, a10, a11, a12, a13, a14, a15, a16, a17, a18, a19, a20, a21) (nI r) (nI c) := by
  have hN := cw_N12 hD
  have hd := cw_t4 R hD.2.1 C hD.2.2.2 r hr c hc
  unfold wpX_pinned
  refine cw_grid_t hD hr hc (br_f (by decide) ⟨pk_in (r * C + c) 12 (by omega) (cw_ixg r C c), ?_⟩)
  rw [cw_ixg, nI_clamp (by omega)]
  exact H
theorem cw_pinned_f {post : Int32 → Prop} {R C : Nat} {x y : Int32} (h : cw_out R C x y) (H : post (-1)) : wpX_pinned post (nI R, nI C, fl, fe, fh, fp, fy, ff, fn, fa, fo, a1, a2, a3, a4, a5, a6, a7, a8, a9, a10, a11, a12, a13, a14, a15, a16, a17, a18, a19, a20, a21) x y := by
  unfold wpX_pinned
  exact cw_grid_f h (br_t rfl H)
theorem cw_pin_t {post : Int32 → St2 → Prop} {R C r c v : Nat} (hD : cw_D R C) (hr : r < R) (hc : c < C) (hv : v ≤ 2) (H : post (a3 (r * C + c)) (nI R, nI C, fl, fe, fh, fp, 0, ff, fn, fa, fo, a1, a2, upd a3 (r * C + c) (nI v), a4, a5, a6, a7, a8, a9, a10, a11, a12, a13, a14, a15, a16, a17, a18, a19, a20, a21)) : wpX_pin post (nI R, nI C, fl, fe, fh, fp, fy, ff, fn, fa, fo, a1, a2, a3, a4, a5, a6, a7, a8, a9, a10, a11, a12, a13, a14, a15, a16, a17, a18, a19, a20, a21) (nI r) (nI c) (nI v) := by
  have hN := cw_N12 hD
  have hd := cw_t4 R hD.2.1 C hD.2.2.2 r hr c hc
  unfold wpX_pin
  refine cw_grid_t hD hr hc (br_f (by decide) (br_f (nI_pos (by omega)) (pk_le v 2 (fun _ => nm_r (cw_ixg r C c) ⟨pk_in (r * C + c) 12 (by omega), nm_r (by rw [nI_clamp (by omega)]) ⟨pk_in (r * C + c) 12 (by omega), nm_r (cw_u rfl (by omega) rfl rfl) H⟩⟩) (fun z => absurd z (by omega)))))
theorem cw_pin_v {post : Int32 → St2 → Prop} {R C r c : Nat} {v : Int32} (hD : cw_D R C) (hr : r < R) (hc : c < C) (hv : v < 0 ∨ ¬ v ≤ 2) (H : post (-1) (nI R, nI C, fl, fe, fh, fp, fy, ff, fn, fa, fo, a1, a2, a3, a4, a5, a6, a7, a8, a9, a10, a11, a12, a13, a14, a15, a16, a17, a18, a19, a20, a21)) : wpX_pin post (nI R, nI C, fl, fe, fh, fp, fy, ff, fn, fa, fo, a1, a2, a3, a4, a5, a6, a7, a8, a9, a10, a11, a12, a13, a14, a15, a16, a17, a18, a19, a20, a21) (nI r) (nI c) v := by
  unfold wpX_pin
  exact cw_grid_t hD hr hc (br_f (by decide) (br_c (fun _ => H) (fun a => br_f (hv.resolve_left a) H)))
theorem cw_pin_f {post : Int32 → St2 → Prop} {R C : Nat} {x y v : Int32} (h : cw_out R C x y) (H : post (-1) (nI R, nI C, fl, fe, fh, fp, fy, ff, fn, fa, fo, a1, a2, a3, a4, a5, a6, a7, a8, a9, a10, a11, a12, a13, a14, a15, a16, a17, a18, a19, a20, a21)) : wpX_pin post (nI R, nI C, fl, fe, fh, fp, fy, ff, fn, fa, fo, a1, a2, a3, a4, a5, a6, a7, a8, a9, a10, a11, a12, a13, a14, a15, a16, a17, a18, a19, a20, a21) x y v := by
  unfold wpX_pin
  exact cw_grid_f h (br_t rfl H)
/-- lineWords, of any int -/
theorem cw_lw {post : Int32 → St2 → Prop} {R C : Nat} {P : Nat → Nat} {x : Int32} (hD : cw_D R C) (hM : cw_M (R + C) a11 a12 a13 a14 a15 a16) (hP : cw_P (R * C) P a3)
    (H : ∀ (w y : Int32) (s : Nat → Int32), (cw_nol R C x → w = -1) → (∀ l, l < R + C → x = nI l → w = nI (cw_cnt R C P l (2 ^ cw_len R C l))) → (y = 0 ∨ cw_B R C (R + C) s) → post w (nI R, nI C, nI (R + C), nI (R * C), fh, fp, y, ff, fn, fa, fo, a1, a2, a3, a4, a5, a6, a7, a8, a9, a10, a11, a12, a13, a14, a15, a16, s, a18, a19, a20, a21)) : wpX_lineWords post (nI R, nI C, nI (R + C), nI (R * C), fh, fp, 0, ff, fn, fa, fo, a1, a2, a3, a4, a5, a6, a7, a8, a9, a10, a11, a12, a13, a14, a15, a16, a17, a18, a19, a20, a21) x := by
  have hD' := hD
  obtain ⟨h1, h2, h3, h4⟩ := hD'
  have non : cw_nol R C x → post (-1) (nI R, nI C, nI (R + C), nI (R * C), fh, fp, 0, ff, fn, fa, fo, a1, a2, a3, a4, a5, a6, a7, a8, a9, a10, a11, a12, a13, a14, a15, a16, a17, a18, a19, a20, a21) := by
    intro h
    refine H _ _ _ (fun _ => rfl) (fun l hl e => ?_) (Or.inl rfl)
    subst e
    exact (h.elim (nI_pos (by omega)) (nI_ge hl (by omega))).elim
  rcases pk_ix x (n := R + C) (by omega) with h | h | ⟨l, hl, e⟩
  · exact br_t h (non (Or.inl h))
  · refine br_c (fun _ => non (Or.inr h)) (fun a => br_f ?_ (non (Or.inr h)))
    exact fun z => absurd (Int32.lt_of_lt_of_le z h) (Int32.lt_irrefl)
  · subst e
    refine cw_lineWords (P := P) hD hl hM hP (Or.inl rfl) (fun y s hs => H _ _ _ (fun h => ?_) (fun l' hl' e => ?_) (Or.inr hs))
    · exact (h.elim (nI_pos (by omega)) (nI_ge hl (by omega))).elim
    · rw [(nI_eq (by omega) (by omega)).mp e]
/-- setLine over the empty stack -/
theorem cw_setLine {post : Int32 → St2 → Prop} {R C : Nat} {x : Int32} (hD : cw_D R C)
    (H : ∀ w : Int32, (cw_nol R C x → w = -1) → (∀ l, l < R + C → x = nI l → w = -3) → post w (fr, fc, nI (R + C), fe, 0, fp, fy, ff, fn, fa, fo, a1, a2, a3, a4, a5, a6, a7, a8, a9, a10, a11, a12, a13, a14, a15, a16, a17, a18, a19, a20, a21)) : wpX_setLine post (fr, fc, nI (R + C), fe, 0, fp, fy, ff, fn, fa, fo, a1, a2, a3, a4, a5, a6, a7, a8, a9, a10, a11, a12, a13, a14, a15, a16, a17, a18, a19, a20, a21) x := by
  obtain ⟨h1, h2, h3, h4⟩ := hD
  have non : cw_nol R C x → post (-1) (fr, fc, nI (R + C), fe, 0, fp, fy, ff, fn, fa, fo, a1, a2, a3, a4, a5, a6, a7, a8, a9, a10, a11, a12, a13, a14, a15, a16, a17, a18, a19, a20, a21) := by
    intro h
    refine H _ (fun _ => rfl) (fun l hl e => ?_)
    subst e
    exact (h.elim (nI_pos (by omega)) (nI_ge hl (by omega))).elim
  rcases pk_ix x (n := R + C) (by omega) with h | h | ⟨l, hl, e⟩
  · exact br_t h (non (Or.inl h))
  · refine br_c (fun _ => non (Or.inr h)) (fun a => br_f ?_ (non (Or.inr h)))
    exact fun z => absurd (Int32.lt_of_lt_of_le z h) (Int32.lt_irrefl)
  · subst e
    refine br_f (nI_pos (by omega)) (br_t (nI_lt hl (by omega)) (br_f (by decide) (H _ (fun h => ?_) (fun _ _ _ => rfl))))
    exact (h.elim (nI_pos (by omega)) (nI_ge hl (by omega))).elim
end
end
section
section
variable {post : Int32 → St0 → Prop} {mc ms kc ks : Nat} {x2 x3 x4 x5 x6 x7 x9 x10 x11 x12 x13 x14 x15 x16 x17 x18 x19 x20 z0 z1 z2 : Int32} {R C : Nat}
theorem cw_348 (hp : post 1 ()) (h13 : z2 = z1 <<< (z0 &&& 31)) (h14 : x14 = if x18 = 0 then -1 else -3) : wL_lawOf_348 post mc ms x14 x18 z0 z1 z2 kc ks :=
  br_t h13 (br_c (fun z => br_t (by rw [h14, if_pos z]) hp) (fun z => br_t (by rw [h14, if_neg z]) hp))
theorem cw_322 (hp : post 1 ()) (h12 : z1 = z0) (h13 : x13 = (1 : Int32) <<< ((if x17 = 0 then x6 * x7 else x6 * x7 - 1) &&& 31)) (h14 : x14 = if x18 = 0 then -1 else -3) : wL_lawOf_322 post mc ms x6 x7 x13 x14 x17 x18 z0 z1 kc ks :=
  br_t h12 (br_c (fun z => cw_348 hp (by rw [h13, if_pos z]) h14) (fun z => cw_348 hp (by rw [h13, if_neg z]) h14))
theorem cw_292 (hp : post 1 ()) (h11 : z1 = z0) (h12 : x12 = if x18 = 0 then (-1 : Int32) else (1 : Int32) <<< ((if x19 = 0 then x20 else x20 - 1) &&& 31)) (h13 : x13 = (1 : Int32) <<< ((if x17 = 0 then x6 * x7 else x6 * x7 - 1) &&& 31)) (h14 : x14 = if x18 = 0 then -1 else -3) :
    wL_lawOf_292 post mc ms x6 x7 x12 x13 x14 x17 x18 x19 x20 z0 z1 kc ks :=
  br_t h11 (br_c (fun z => cw_322 hp (by rw [h12, if_pos z]) h13 h14) (fun z => br_c (fun y => cw_322 hp (by rw [h12, if_neg z, if_pos y]) h13 h14) (fun y => cw_322 hp (by rw [h12, if_neg z, if_neg y]) h13 h14)))
theorem cw_238 (hp : post 1 ()) (h9 : x9 = if x15 = 0 then -1 else 2) (h10 : x10 = if x16 = 0 then -1 else 2) (h11 : x11 = if x15 = 0 then -1 else if x16 = 0 then 2 else x4) (h12 : x12 = if x18 = 0 then (-1 : Int32) else (1 : Int32) <<< ((if x19 = 0 then x20 else x20 - 1) &&& 31)) (h13 : x13 = (1 : Int32) <<< ((if x17 = 0 then x6 * x7 else x6 * x7 - 1) &&& 31)) (h14 : x14 = if x18 = 0 then -1 else -3) :
    wL_lawOf_238 post mc ms x4 x6 x7 x9 x10 x11 x12 x13 x14 x15 x16 x17 x18 x19 x20 kc ks := by
  have k267 : ∀ w0 w1 : Int32, w1 = w0 → wL_lawOf_267 post mc ms x4 x6 x7 x11 x12 x13 x14 x15 x16 x17 x18 x19 x20 w0 w1 kc ks := fun w0 w1 e =>
    br_t e (br_c (fun z => cw_292 hp (by rw [h11, if_pos z]) h12 h13 h14) (fun z => br_c (fun y => cw_292 hp (by rw [h11, if_neg z, if_pos y]) h12 h13 h14) (fun y => cw_292 hp (by rw [h11, if_neg z, if_neg y]) h12 h13 h14)))
  have k252 : ∀ w0 w1 : Int32, w1 = w0 → wL_lawOf_252 post mc ms x4 x6 x7 x10 x11 x12 x13 x14 x15 x16 x17 x18 x19 x20 w0 w1 kc ks := fun w0 w1 e =>
    br_t e (br_c (fun z => k267 _ _ (by rw [h10, if_pos z])) (fun z => k267 _ _ (by rw [h10, if_neg z])))
  exact br_c (fun z => k252 _ _ (by rw [h9, if_pos z])) (fun z => k252 _ _ (by rw [h9, if_neg z]))
/-- no line: the words are -1 -/
theorem cw_222n (hp : post 1 ()) (h9 : x9 = if x15 = 0 then -1 else 2) (h10 : x10 = if x16 = 0 then -1 else 2) (h11 : x11 = if x15 = 0 then -1 else if x16 = 0 then 2 else x4) (h12 : x12 = -1) (h13 : x13 = (1 : Int32) <<< ((if x17 = 0 then x6 * x7 else x6 * x7 - 1) &&& 31)) (h14 : x14 = -1) :
    wL_lawOf_222 post mc ms x4 x5 x6 x7 x9 x10 x11 x12 x13 x14 x15 x16 x17 0 z0 kc ks :=
  br_c (fun _ => cw_238 hp h9 h10 h11 h12 h13 h14) (fun _ => cw_238 hp h9 h10 h11 h12 h13 h14)
theorem cw_222l {l : Nat} (hp : post 1 ()) (hD : cw_D R C) (hl : l < R + C) (h9 : x9 = if x15 = 0 then -1 else 2) (h10 : x10 = if x16 = 0 then -1 else 2) (h11 : x11 = if x15 = 0 then -1 else if x16 = 0 then 2 else x4) (h12 : x12 = nI (2 ^ (if z0 = 0 then cw_len R C l else cw_len R C l - 1))) (h13 : x13 = (1 : Int32) <<< ((if x17 = 0 then nI R * nI C else nI R * nI C - 1) &&& 31)) (h14 : x14 = -3) :
    wL_lawOf_222 post mc ms x4 (nI l) (nI R) (nI C) x9 x10 x11 x12 x13 x14 x15 x16 x17 1 z0 kc ks := by
  obtain ⟨h1, h2, h3, h4⟩ := hD
  have key : ∀ k, 1 ≤ k → k ≤ 4 → cw_len R C l = k → x12 = if (1 : Int32) = 0 then (-1 : Int32) else (1 : Int32) <<< ((if z0 = 0 then nI k else nI k - 1) &&& 31) := by
    intro k k1 k4 e
    rw [h12, e, if_neg (show ¬ (1 : Int32) = 0 by decide)]
    by_cases z : z0 = 0
    · rw [if_pos z, if_pos z, cw_sh1 k (by omega)]
    · rw [if_neg z, if_neg z, show nI k - 1 = nI (k - 1) from pk_sub (b := 1) k1, cw_sh1 (k - 1) (by omega)]
  refine pk_le R l (fun z => ?_) (fun z => ?_)
  · exact cw_238 hp h9 h10 h11 (key R h1 (by omega) (if_neg (by omega))) h13 h14
  · exact cw_238 hp h9 h10 h11 (key C h3 (by omega) (if_pos z)) h13 h14
theorem cw_173 (hp : post 1 ()) (hD : cw_D R C) (h9 : x9 = if x15 = 0 then -1 else 2) (h10 : x10 = if x16 = 0 then -1 else 2) (h11 : x11 = if x15 = 0 then -1 else if x16 = 0 then 2 else x4)
    (h13 : x13 = (1 : Int32) <<< ((if x17 = 0 then nI R * nI C else nI R * nI C - 1) &&& 31))
    (hn : cw_nol R C x5 → x12 = -1) (hn' : cw_nol R C x5 → x14 = -1) (hl : ∀ l, l < R + C → x5 = nI l → x12 = nI (2 ^ (if ¬ x17 = 0 ∧ (x5 = x2 ∨ x5 = nI R + x3) then cw_len R C l - 1 else cw_len R C l))) (hl' : ∀ l, l < R + C → x5 = nI l → x14 = -3) :
    wL_lawOf_173 post mc ms x2 x3 x4 x5 (nI R) (nI C) x9 x10 x11 x12 x13 x14 x15 x16 x17 kc ks := by
  have hD' := hD
  obtain ⟨h1, h2, h3, h4⟩ := hD'
  have non : cw_nol R C x5 → wL_lawOf_195 post mc ms x2 x3 x4 x5 (nI R) (nI C) x9 x10 x11 x12 x13 x14 x15 x16 x17 0 kc ks := by
    intro h
    have e12 := hn h
    have e14 := hn' h
    exact br_c (fun _ => cw_222n hp h9 h10 h11 e12 h13 e14) (fun _ => br_c (fun _ => cw_222n hp h9 h10 h11 e12 h13 e14) (fun _ => br_c (fun _ => cw_222n hp h9 h10 h11 e12 h13 e14) (fun _ => cw_222n hp h9 h10 h11 e12 h13 e14)))
  rcases pk_ix x5 (n := R + C) (by omega) with h | h | ⟨l, hl0, e⟩
  · exact br_t h (non (Or.inl h))
  · exact br_c (fun _ => non (Or.inr h)) (fun _ => br_t (by rw [nI_add]; exact h) (non (Or.inr h)))
  · have e12 := hl l hl0 e
    have e14 := hl' l hl0 e
    subst e
    refine br_f (nI_pos (by omega)) (br_f (by rw [nI_add]; exact nI_ge hl0 (by omega)) ?_)
    refine br_c (fun a => ?_) (fun a => br_c (fun b => ?_) (fun b => br_c (fun c => ?_) (fun c => ?_)))
    · rw [if_neg (fun q => q.1 a)] at e12
      exact cw_222l (z0 := 0) hp hD hl0 h9 h10 h11 e12 h13 e14
    · rw [if_pos ⟨a, Or.inl b⟩] at e12
      exact cw_222l (z0 := 1) hp hD hl0 h9 h10 h11 e12 h13 e14
    · rw [if_pos ⟨a, Or.inr c⟩] at e12
      exact cw_222l (z0 := 1) hp hD hl0 h9 h10 h11 e12 h13 e14
    · rw [if_neg (fun q => q.2.elim b c)] at e12
      exact cw_222l (z0 := 0) hp hD hl0 h9 h10 h11 e12 h13 e14
end
end
section
/-- 1 << cells, or cells - 1 -/
theorem cw_count {R C q v : Nat} {x17 : Int32} (hD : cw_D R C) (hq : q < R * C) (hv : v < 3) (h : x17 = 0 ↔ ¬ v < 2) : nI (cw_F (cw_pin q v) (R * C) (R * C)) = (1 : Int32) <<< ((if x17 = 0 then nI R * nI C else nI R * nI C - 1) &&& 31) := by
  have hN := cw_N12 hD
  rw [(cw_FN (R * C) hN q (by omega) v hv).1, pk_mul]
  by_cases z : v < 2
  · rw [if_pos ⟨z, hq⟩, if_neg (fun y => h.mp y z), show nI (R * C) - 1 = nI (R * C - 1) from pk_sub (b := 1) (cw_N0 hD), cw_sh1 _ (by omega)]
  · rw [if_neg (fun y => z y.1), if_pos (h.mpr z), cw_sh1 _ (by omega)]
theorem cw_words1 {R C r c v l : Nat} {x17 : Int32} (hD : cw_D R C) (hr : r < R) (hc : c < C) (hv : v < 3) (hl : l < R + C) (h : x17 = 0 ↔ ¬ v < 2) : cw_cnt R C (cw_pin (r * C + c) v) l (2 ^ cw_len R C l) = 2 ^ (if ¬ x17 = 0 ∧ (nI l = nI r ∨ nI l = nI R + nI c) then cw_len R C l - 1 else cw_len R C l) := by
  obtain ⟨h1, h2, h3, h4⟩ := hD
  rw [cw_words R h2 C h4 r hr c hc v hv l hl, nI_add]
  have q1 : nI l = nI r ↔ l = r := nI_eq (by omega) (by omega)
  have q2 : nI l = nI (R + c) ↔ l = R + c := nI_eq (by omega) (by omega)
  by_cases z : v < 2
  · have y : ¬ x17 = 0 := fun y => h.mp y z
    by_cases w : l = r ∨ l = R + c
    · rw [if_pos ⟨z, w⟩, if_pos ⟨y, w.elim (fun e => Or.inl (q1.mpr e)) (fun e => Or.inr (q2.mpr e))⟩]
    · rw [if_neg (fun q => w q.2), if_neg (fun q => w (q.2.elim (fun e => Or.inl (q1.mp e)) (fun e => Or.inr (q2.mp e))))]
  · rw [if_neg (fun q => z q.1), if_neg (fun q => q.1 (h.mpr z))]
theorem cw_words0 {R C l : Nat} {y1 y2 y3 y4 : Int32} (hD : cw_D R C) (hl : l < R + C) : cw_cnt R C (cw_pin 0 2) l (2 ^ cw_len R C l) = 2 ^ (if ¬ (0 : Int32) = 0 ∧ (y1 = y2 ∨ y3 = y4) then cw_len R C l - 1 else cw_len R C l) := by
  obtain ⟨h1, h2, h3, h4⟩ := hD
  have t := cw_words R h2 C h4 0 h1 0 h3 2 (by omega) l hl
  rw [Nat.zero_mul, if_neg (by omega)] at t
  rw [if_neg (fun q => q.1 rfl)]
  exact t
theorem cw_40 {p0 p1 x2 x3 x4 x5 : Int32} {R C : Nat} (hr : cw_cl p0 3 R) (hc : cw_cl p1 4 C) : wL_lawOf_40 (fun r _ => r = 1) 188 2992 p0 p1 x2 x3 x4 x5 (nI R) (nI C) 0 0 := by
  have hD : cw_D R C := ⟨hr.1, Nat.lt_succ_of_le hr.2.1, hc.1, Nat.lt_succ_of_le hc.2.1⟩
  have hD' := hD
  obtain ⟨h1, h2, h3, h4⟩ := hD'
  have hN0 := cw_N0 hD
  have hN := cw_N12 hD
  refine ⟨by decide, by decide, 21, 258, by decide, by decide, cw_init hD hr hc (fun s1 s2 s3 s11 s12 s13 s14 s15 s16 hK hM => ?_)⟩
  have hG : cw_G R C s1 s2 := fun d hd => ⟨(hK d hd).1, (hK d hd).2.1⟩
  have hP0 : cw_P (R * C) (cw_pin 0 2) s3 := fun d hd => by
    have e : cw_pin 0 2 d = 2 := by
      unfold cw_pin
      split <;> rfl
    rw [e]
    exact ⟨(hK d hd).2.2, Nat.le_refl 2⟩
  have hF0 := cw_FN (R * C) hN 0 (by omega) 2 (by omega)
  by_cases ho : cw_out R C x2 x3
  · refine cw_pinned_f ho (cw_pin_f ho (cw_pinned_f ho (cw_lw (P := cw_pin 0 2) hD hM hP0 (fun w y s w1 w2 hy => ?_))))
    refine cw_fillings (P := cw_pin 0 2) hD hM hP0 hy hG hF0.2.1 hF0.2.2 (fun _ _ _ _ _ _ _ _ _ _ => ?_)
    refine cw_setLine hD (fun t t1 t2 => ?_)
    have fin : ∀ kc ks, wL_lawOf_131 (fun r _ => r = 1) 188 2992 x2 x3 x4 x5 (nI R) (nI C) (-1) (-1) (-1) w (nI (cw_F (cw_pin 0 2) (R * C) (R * C))) t kc ks := fun kc ks =>
      br_t rfl (br_t rfl (cw_173 (x17 := 0) rfl hD rfl rfl rfl (cw_count hD hN0 (by omega) ⟨fun _ => by omega, fun _ => rfl⟩) w1 t1 (fun l hl e => (w2 l hl e).trans (congrArg nI (cw_words0 hD hl))) t2))
    exact br_c (fun _ => fin _ _) (fun a => br_c (fun _ => fin _ _) (fun b => br_c (fun _ => fin _ _) (fun c => br_c (fun _ => fin _ _) (fun d => (ho.elim a (fun h => h.elim b (fun h => h.elim c d))).elim))))
  · obtain ⟨r, hr', e2⟩ : ∃ r, r < R ∧ x2 = nI r := by
      rcases pk_ix x2 (n := R) (by omega) with h | h | h
      · exact absurd (Or.inl h) ho
      · exact absurd (Or.inr (Or.inl h)) ho
      · exact h
    obtain ⟨c, hc', e3⟩ : ∃ c, c < C ∧ x3 = nI c := by
      rcases pk_ix x3 (n := C) (by omega) with h | h | h
      · exact absurd (Or.inr (Or.inr (Or.inl h))) ho
      · exact absurd (Or.inr (Or.inr (Or.inr h))) ho
      · exact h
    subst e2 e3
    have hd := cw_t4 R h2 C h4 r hr' c hc'
    have eK := (hK _ hd).2.2
    by_cases hv : x4 < 0 ∨ ¬ x4 ≤ 2
    · refine cw_pinned_t hD hr' hc' (cw_pin_v hD hr' hc' hv (cw_pinned_t hD hr' hc' (cw_lw (P := cw_pin 0 2) hD hM hP0 (fun w y s w1 w2 hy => ?_))))
      refine cw_fillings (P := cw_pin 0 2) hD hM hP0 hy hG hF0.2.1 hF0.2.2 (fun _ _ _ _ _ _ _ _ _ _ => ?_)
      refine cw_setLine hD (fun t t1 t2 => ?_)
      rw [eK]
      have fin : ∀ kc ks, wL_lawOf_154 (fun r _ => r = 1) 188 2992 (nI r) (nI c) x4 x5 (nI R) (nI C) (nI 2) (-1) (nI 2) w (nI (cw_F (cw_pin 0 2) (R * C) (R * C))) t 1 kc ks := fun kc ks =>
        br_t rfl (cw_173 (x17 := 0) rfl hD rfl rfl rfl (cw_count hD hN0 (by omega) ⟨fun _ => by omega, fun _ => rfl⟩) w1 t1 (fun l hl e => (w2 l hl e).trans (congrArg nI (cw_words0 hD hl))) t2)
      refine br_f (nI_pos (by omega)) (br_f (nI_ge hr' (by omega)) (br_f (nI_pos (by omega)) (br_f (nI_ge hc' (by omega)) ?_)))
      exact br_f (by decide) (br_c (fun _ => fin _ _) (fun a => br_t (Int32.not_le.mp (hv.resolve_left a)) (fin _ _)))
    · obtain ⟨v, hv', e4⟩ : ∃ v, v ≤ 2 ∧ x4 = nI v := nI_of2 (M := 2) (n := 2) (by decide) (fun z => hv (Or.inl z)) (Decidable.byContradiction (fun z => hv (Or.inr z)))
      subst e4
      have hP1 : cw_P (R * C) (cw_pin (r * C + c) v) (upd s3 (r * C + c) (nI v)) := by
        intro d hd'
        unfold cw_pin
        by_cases e : d = r * C + c
        · rw [e, pk_us, if_pos rfl]
          exact ⟨rfl, hv'⟩
        · rw [pk_un e, if_neg e]
          exact ⟨(hK d hd').2.2, Nat.le_refl 2⟩
      have hF1 := cw_FN (R * C) hN (r * C + c) (by omega) v (by omega)
      refine cw_pinned_t hD hr' hc' (cw_pin_t hD hr' hc' hv' (cw_pinned_t hD hr' hc' (cw_lw (P := cw_pin (r * C + c) v) hD hM hP1 (fun w y s w1 w2 hy => ?_))))
      refine cw_fillings (P := cw_pin (r * C + c) v) hD hM hP1 hy hG hF1.2.1 hF1.2.2 (fun _ _ _ _ _ _ _ _ _ _ => ?_)
      refine cw_setLine hD (fun t t1 t2 => ?_)
      rw [eK, pk_us]
      refine br_f (nI_pos (by omega)) (br_f (nI_ge hr' (by omega)) (br_f (nI_pos (by omega)) (br_f (nI_ge hc' (by omega)) ?_)))
      refine br_f (by decide) (br_f (nI_pos (by omega)) (br_f (nI_nlt (a := 2) (b := v) hv' (by omega)) (br_f (by decide) (pk_le 2 v (fun z => ?_) (fun z => ?_)))))
      · have h17 : (0 : Int32) = 0 ↔ ¬ v < 2 := ⟨fun _ => by omega, fun _ => rfl⟩
        exact cw_173 (x17 := 0) rfl hD rfl rfl rfl (cw_count hD hd (by omega) h17) w1 t1 (fun l hl e => by rw [w2 l hl e, e]; exact congrArg nI (cw_words1 hD hr' hc' (by omega) hl h17)) t2
      · have h17 : (1 : Int32) = 0 ↔ ¬ v < 2 := ⟨fun y => absurd y (by decide), fun y => absurd z y⟩
        exact cw_173 (x17 := 1) rfl hD rfl rfl rfl (cw_count hD hd (by omega) h17) w1 t1 (fun l hl e => by rw [w2 l hl e, e]; exact congrArg nI (cw_words1 hD hr' hc' (by omega) hl h17)) t2
theorem cw_19 {p0 p1 x2 x3 x4 x5 : Int32} {R : Nat} (hr : cw_cl p0 3 R) : wL_lawOf_19 (fun r _ => r = 1) 188 2992 p0 p1 x2 x3 x4 x5 (nI R) 0 0 := by
  obtain ⟨C, hc⟩ := cw_cl_ex p1 4 (by omega) (by omega)
  have key := cw_40 (x2 := x2) (x3 := x3) (x4 := x4) (x5 := x5) hr hc
  obtain ⟨c1, c2, c3, c4, c5⟩ := hc
  refine br_c (fun a => br_c (fun b => ?_) (fun b => ?_)) (fun a => ?_)
  · rw [← c3 a b] at key
    exact key
  · rw [c4 a b] at key
    exact key
  · rw [c5 a] at key
    exact key
theorem cw_lawOf (p0 p1 x2 x3 x4 x5 : Int32) : wpL_lawOf (fun r _ => r = 1) 188 2992 () p0 p1 x2 x3 x4 x5 := by
  obtain ⟨R, hr⟩ := cw_cl_ex p0 3 (by omega) (by omega)
  have key := cw_19 (p1 := p1) (x2 := x2) (x3 := x3) (x4 := x4) (x5 := x5) hr
  obtain ⟨c1, c2, c3, c4, c5⟩ := hr
  refine br_c (fun a => br_c (fun b => ?_) (fun b => ?_)) (fun a => ?_)
  · rw [← c3 a b] at key
    exact key
  · rw [c4 a b] at key
    exact key
  · rw [c5 a] at key
    exact key
theorem cw_cellAt {post : Int32 → Prop} {L i : Nat} {xs : Nat → Int32} (hL : L ≤ 6) (hi : i < 6) (H : ∀ x, post x) : wpL_cellAt post L xs () (nI i) :=
  pk_le L i (fun _ => H 0) (fun z => ⟨pk_in i L z, H _⟩)
theorem i_vc (xs : Nat → Int32) (L : Nat) (hL : L ≤ 6) : wpL_law (fun r => r = 1) L xs := by
  unfold wpL_law
  exact cw_cellAt (i := 0) hL (by omega) (fun x0 => cw_cellAt (i := 1) hL (by omega) (fun x1 => cw_cellAt (i := 2) hL (by omega) (fun x2 => cw_cellAt (i := 3) hL (by omega) (fun x3 => cw_cellAt (i := 4) hL (by omega) (fun x4 => cw_cellAt (i := 5) hL (by omega) (fun x5 => ⟨188, 2992, by decide, by decide, cw_lawOf x0 x1 x2 x3 x4 x5⟩))))))
end
