section
/-- the number of letters of a row -/
def zt_sz (w : Nat) : Nat := if w < 8 then 0 else if w < 64 then 1 else if w < 512 then 2 else if w < 4096 then 3 else if w < 32768 then 4 else if w < 262144 then 5 else if w < 2097152 then 6 else 7
theorem zt_sz_cases (w : Nat) : (zt_sz w = 0 ∧ w < 8) ∨ (zt_sz w = 1 ∧ 8 ≤ w ∧ w < 64) ∨ (zt_sz w = 2 ∧ 64 ≤ w ∧ w < 512) ∨ (zt_sz w = 3 ∧ 512 ≤ w ∧ w < 4096) ∨ (zt_sz w = 4 ∧ 4096 ≤ w ∧ w < 32768) ∨ (zt_sz w = 5 ∧ 32768 ≤ w ∧ w < 262144) ∨ (zt_sz w = 6 ∧ 262144 ≤ w ∧ w < 2097152) ∨ (zt_sz w = 7 ∧ 2097152 ≤ w) := by
  unfold zt_sz
  (repeat' split) <;> omega
theorem zt_sz_le (w : Nat) : zt_sz w ≤ 7 := by
  have := zt_sz_cases w
  omega
theorem zt_sz_up {w : Nat} (h : zt_sz w < 7) : w < 2 ^ (3 * zt_sz w + 3) := by
  rcases zt_sz_cases w with ⟨e, h2⟩ | ⟨e, _, h2⟩ | ⟨e, _, h2⟩ | ⟨e, _, h2⟩ | ⟨e, _, h2⟩ | ⟨e, _, h2⟩ | ⟨e, _, h2⟩ | ⟨e, h2⟩
  all_goals first | (rw [e]; exact Nat.lt_of_lt_of_le h2 (by decide)) | omega
theorem zt_sz_b {w : Nat} (h : 0 < zt_sz w) : 2 ^ (3 * zt_sz w) ≤ w := by
  rcases zt_sz_cases w with ⟨e, h2⟩ | ⟨e, h2, _⟩ | ⟨e, h2, _⟩ | ⟨e, h2, _⟩ | ⟨e, h2, _⟩ | ⟨e, h2, _⟩ | ⟨e, h2, _⟩ | ⟨e, h2⟩
  all_goals first | (rw [e]; exact Nat.le_trans (by decide) h2) | omega
theorem zt_sz_lo {w i : Nat} (h : i < zt_sz w) : 2 ^ (3 * i + 3) ≤ w :=
  Nat.le_trans (Nat.pow_le_pow_right (by decide) (by omega)) (zt_sz_b (Nat.lt_of_le_of_lt (Nat.zero_le i) h))
theorem zt_pw {k : Nat} (h : k ≤ 30) : 2 ^ k < 2 ^ 31 := Nat.pow_lt_pow_right (by decide) (by omega)
theorem zt_t1 : ∀ k, k < 7 → (1 : Int32) <<< (((3 * nI k) + 3) &&& 31) = nI (2 ^ (3 * k + 3)) := by decide
theorem zt_t2 : ∀ k, k < 7 → (1 : Int32) <<< ((3 * nI k) &&& 31) = nI (2 ^ (3 * k)) := by decide
theorem zt_t3 : ∀ k, k < 7 → (2 : Int32) <<< ((3 * nI k) &&& 31) = nI (2 * 2 ^ (3 * k)) := by decide
theorem zt_t4 : ∀ m, m < 8 → (((3 * nI m) &&& 31).toBitVec.smod 32).toNat = 3 * m := by decide
theorem zt_t5 : ∀ n, n < 8 → (nI n + 1) >>> ((1 : Int32) &&& 31) = nI ((n + 1) / 2) := by decide
theorem zt_t6 : ∀ n, n < 8 → ∀ i, i < 4 → 2 * i < n → (((3 * ((nI n - 1) - (2 * nI i))) &&& 31).toBitVec.smod 32).toNat = 3 * (n - 1 - 2 * i) := by decide
theorem zt_t7 : ∀ n, n < 8 → ∀ i, i < 4 → 2 * i + 1 < n → (((3 * ((nI n - 2) - (2 * nI i))) &&& 31).toBitVec.smod 32).toNat = 3 * (n - 2 - 2 * i) := by decide
theorem zt_sizeOf {post : Int32 → Prop} {u : St2} {w : Nat} (hw : w < 2 ^ 31) (h : post (nI (zt_sz w))) : wpX_sizeOf post u (nI w) :=
  pk_loop (σ := Unit) (fun n i _ => wX_sizeOf_2 post (nI w) n (nI i)) (fun _ _ => True) (zt_sz w) 0 () (Nat.zero_le _) trivial
    (fun n _ _ => pk_le 7 (zt_sz w) (fun _ => h) (fun z => by
      rw [zt_t1 _ z]
      exact pk_lt w (2 ^ (3 * zt_sz w + 3)) (fun _ => h) (fun y => absurd (zt_sz_up z) (by omega)) rfl rfl hw (zt_pw (by omega))) rfl rfl (by decide) (by have := zt_sz_le w; omega))
    (fun n i _ hi _ hw' => pk_le 7 i (fun z => absurd z (by have := zt_sz_le w; omega)) (fun z => by
      rw [zt_t1 _ z]
      exact pk_lt w (2 ^ (3 * i + 3)) (fun y => absurd (zt_sz_lo hi) (by omega)) (fun _ => nm_r (nI_1 i) (hw' () trivial)) rfl rfl hw (zt_pw (by omega))) rfl rfl (by decide) (by have := zt_sz_le w; omega))
def zt_row (w : Nat) : Prop := 1 ≤ w ∧ zt_sz w ≤ 6 ∧ w < 2 * 2 ^ (3 * zt_sz w)
def zt_word (w : Nat) : Prop := 2 ≤ w ∧ zt_row w
theorem zt_row_lt {w : Nat} (h : zt_row w) : w < 524288 := by
  obtain ⟨_, h1, h2⟩ := h
  rcases zt_sz_cases w with ⟨e, h3⟩ | ⟨e, _, h3⟩ | ⟨e, _, h3⟩ | ⟨e, _, h3⟩ | ⟨e, _, h3⟩ | ⟨e, _, h3⟩ | ⟨e, _, h3⟩ | ⟨e, h3⟩
  all_goals first | (rw [e] at h2; exact Nat.lt_of_lt_of_le h2 (by decide)) | omega
theorem zt_word_iff (w : Nat) : zt_word w ↔ (8 ≤ w ∧ w < 16) ∨ (64 ≤ w ∧ w < 128) ∨ (512 ≤ w ∧ w < 1024) ∨ (4096 ≤ w ∧ w < 8192) ∨ (32768 ≤ w ∧ w < 65536) ∨ (262144 ≤ w ∧ w < 524288) := by
  unfold zt_word zt_row
  rcases zt_sz_cases w with ⟨e, h3⟩ | ⟨e, h2, h3⟩ | ⟨e, h2, h3⟩ | ⟨e, h2, h3⟩ | ⟨e, h2, h3⟩ | ⟨e, h2, h3⟩ | ⟨e, h2, h3⟩ | ⟨e, h3⟩
  all_goals (rw [e]; simp only [Nat.reduceMul, Nat.reducePow]; omega)
theorem zt_isRow {post : Int32 → Prop} {u : St2} {w : Nat} (hw : w < 2 ^ 31) (h1 : zt_row w → post 1) (h0 : ¬ zt_row w → post 0) : wpX_isRow post u (nI w) := by
  unfold wpX_isRow
  refine zt_sizeOf hw ?_
  have h7 := zt_sz_le w
  refine pk_lt 6 (zt_sz w) (fun z => h0 (fun r => by have := r.2.1; omega)) (fun z => ?_)
  rw [zt_t2 _ (by omega), zt_t3 _ (by omega)]
  have b1 : 2 ^ (3 * zt_sz w) < 2 ^ 31 := zt_pw (by omega)
  have b2 : 2 * 2 ^ (3 * zt_sz w) < 2 ^ 31 := by
    rw [← Nat.pow_succ']
    exact zt_pw (by omega)
  refine pk_lt w (2 ^ (3 * zt_sz w)) (fun y => h0 (fun r => ?_)) (fun y => ?_) rfl rfl hw b1
  · by_cases hz : zt_sz w = 0
    · rw [hz] at y
      have := r.1
      omega
    · have := zt_sz_b (w := w) (by omega)
      omega
  · refine pk_le (2 * 2 ^ (3 * zt_sz w)) w (fun x => h0 (fun r => by have := r.2.2; omega)) (fun x => h1 ⟨?_, z, x⟩) rfl rfl b2 hw
    exact Nat.le_trans (Nat.one_le_two_pow) y
theorem zt_isWord {post : Int32 → Prop} {u : St2} {w : Nat} (hw : w < 2 ^ 31) (h1 : zt_word w → post 1) (h0 : ¬ zt_word w → post 0) : wpX_isWord post u (nI w) :=
  pk_le w 1 (fun z => h0 (fun r => by have := r.1; omega)) (fun z => zt_isRow hw (fun r => br_f (by decide) (h1 ⟨z, r⟩)) (fun r => br_t rfl (h0 (fun t => r t.2)))) rfl rfl hw (by decide)
def zt_bg (r w : Nat) : Prop := zt_sz r ≤ zt_sz w ∧ w / 2 ^ (3 * (zt_sz w - zt_sz r)) = r
theorem zt_begins {post : Int32 → Prop} {u : St2} {r w : Nat} (hr : r < 2 ^ 31) (hw : w < 2 ^ 31) (h1 : zt_bg r w → post 1) (h0 : ¬ zt_bg r w → post 0) : wpX_begins post u (nI r) (nI w) := by
  unfold wpX_begins
  refine zt_sizeOf hw (zt_sizeOf hr ?_)
  have h7 := zt_sz_le w
  have h8 := zt_sz_le r
  by_cases hc : zt_sz r ≤ zt_sz w
  · refine nm_r (pk_sub hc) ?_
    refine pk_lt (zt_sz w - zt_sz r) 0 (fun z => absurd z (by omega)) (fun _ => ?_)
    rw [pk_shrN hw _ (3 * (zt_sz w - zt_sz r)) (zt_t4 _ (by omega))]
    have hq : w / 2 ^ (3 * (zt_sz w - zt_sz r)) ≤ w := Nat.div_le_self _ _
    exact pk_eq _ r (fun z => h1 ⟨hc, z⟩) (fun z => h0 (fun t => z t.2)) rfl rfl (by omega) hr
  · refine nm_e (br_t (pk_sneg (by omega) (by omega)) (h0 (fun t => hc t.1)))
def zt_ly (w : Nat) : Nat := (zt_sz w + 1) / 2
theorem zt_layersOf {post : Int32 → Prop} {u : St2} {w : Nat} (hw : w < 2 ^ 31) (h : post (nI (zt_ly w))) : wpX_layersOf post u (nI w) := by
  unfold wpX_layersOf
  refine zt_sizeOf hw ?_
  have h7 := zt_sz_le w
  rw [zt_t5 _ (by omega)]
  exact h
def zt_sl (w i : Nat) : Nat := if 2 * i + 1 < zt_sz w then 9 * (w / 2 ^ (3 * (zt_sz w - 1 - 2 * i)) % 8 + 1) + w / 2 ^ (3 * (zt_sz w - 2 - 2 * i)) % 8 + 1 else 9 * (w / 2 ^ (3 * (zt_sz w - 1 - 2 * i)) % 8 + 1)
theorem zt_sl_b (w i : Nat) : 9 ≤ zt_sl w i ∧ zt_sl w i ≤ 80 := by
  unfold zt_sl
  split <;> omega
theorem zt_n9 (a b : Nat) : ((9 * (nI a + 1)) + nI b) + 1 = nI (9 * (a + 1) + b + 1) := by
  rw [show (9 : Int32) = nI 9 from rfl, nI_1, pk_mul, nI_add, nI_1]
theorem zt_n9' (a : Nat) : 9 * (nI a + 1) = nI (9 * (a + 1)) := by
  rw [show (9 : Int32) = nI 9 from rfl, nI_1, pk_mul]
theorem zt_n21 (a : Nat) : (2 * nI a) + 1 = nI (2 * a + 1) := by
  rw [show (2 : Int32) = nI 2 from rfl, pk_mul, nI_1]
theorem zt_sliceOf {post : Int32 → Prop} {u : St2} {w i : Nat} (hw : w < 2 ^ 31) (hi : i < zt_ly w) (h : post (nI (zt_sl w i))) : wpX_sliceOf post u (nI w) (nI i) := by
  unfold wpX_sliceOf
  refine zt_sizeOf hw ?_
  have h7 := zt_sz_le w
  have h2 : 2 * i < zt_sz w := by
    unfold zt_ly at hi
    omega
  rw [pk_shrN hw _ _ (zt_t6 _ (by omega) i (by omega) h2)]
  have d1 := Nat.div_le_self w (2 ^ (3 * (zt_sz w - 1 - 2 * i)))
  rw [pk_andN (by omega) 3 (by decide)]
  refine nm_e ?_
  unfold zt_sl at h
  refine pk_lt (2 * i + 1) (zt_sz w) (fun z => ?_) (fun z => ?_) (zt_n21 i)
  · rw [pk_shrN hw _ _ (zt_t7 _ (by omega) i (by omega) z)]
    have d2 := Nat.div_le_self w (2 ^ (3 * (zt_sz w - 2 - 2 * i)))
    rw [pk_andN (by omega) 3 (by decide)]
    refine nm_e ?_
    rw [zt_n9]
    rw [if_pos z] at h
    exact h
  · rw [zt_n9']
    rw [if_neg (by omega)] at h
    exact h
def zt_cb (a b : Nat) : Prop := (∃ i, i < zt_ly a ∧ i < zt_ly b ∧ (∀ j, j < i → zt_sl a j = zt_sl b j) ∧ zt_sl a i < zt_sl b i) ∨ ((∀ j, j < zt_ly a → j < zt_ly b → zt_sl a j = zt_sl b j) ∧ zt_ly a < zt_ly b)
theorem zt_ly_le (w : Nat) : zt_ly w ≤ 4 := by
  have := zt_sz_le w
  unfold zt_ly
  omega
theorem zt_cbL {post : Int32 → Prop} {a b m : Nat} (ha : a < 2 ^ 31) (hb : b < 2 ^ 31) (hm : m = min (zt_ly a) (zt_ly b)) (h1 : zt_cb a b → post 1) (h0 : ¬ zt_cb a b → post 0) : ∃ n, wX_comesBefore_25 post (nI a) (nI b) (nI m) n 0 := by
  have la := zt_ly_le a
  have lb := zt_ly_le b
  refine pk_loop (σ := Unit) (fun n i _ => wX_comesBefore_25 post (nI a) (nI b) (nI m) n (nI i)) (fun i _ => ∀ j, j < i → zt_sl a j = zt_sl b j) m 0 () (Nat.zero_le _) (fun j hj => absurd hj (by omega)) ?_ ?_
  · intro n _ hI
    refine pk_le m m (fun _ => ?_) (fun z => absurd z (by omega))
    refine zt_layersOf ha (zt_layersOf hb ?_)
    refine pk_le (zt_ly b) (zt_ly a) (fun z => h0 (fun t => ?_)) (fun z => h1 (Or.inr ⟨fun j h1 h2 => hI j (by omega), z⟩))
    rcases t with ⟨i, i1, i2, i3, i4⟩ | t
    · have := hI i (by omega)
      omega
    · omega
  · intro n i _ hi hI hw
    refine pk_le m i (fun z => absurd z (by omega)) (fun _ => ?_)
    refine zt_sliceOf ha (by omega) (zt_sliceOf hb (by omega) ?_)
    refine nm_e ?_
    have sa := zt_sl_b a i
    have sb := zt_sl_b b i
    have e := pk_sub_toInt (a := zt_sl a i) (b := zt_sl b i) (by omega) (by omega)
    refine br_c (fun z => ?_) (fun z => br_c (fun y => h0 (fun t => ?_)) (fun y => h1 (Or.inl ⟨i, by omega, by omega, hI, ?_⟩)))
    · refine nm_r (nI_1 i) (hw () (fun j hj => ?_))
      by_cases hji : j = i
      · rw [z] at e
        rw [hji]
        have : (0 : Int32).toInt = 0 := rfl
        omega
      · exact hI j (by omega)
    · have y' : (0 : Int32).toInt ≤ (nI (zt_sl a i) - nI (zt_sl b i)).toInt := Int32.le_iff_toInt_le.mp y
      have z0 : (0 : Int32).toInt = 0 := rfl
      have hne : zt_sl a i ≠ zt_sl b i := by
        intro hq
        apply z
        rw [hq]
        exact Int32.toInt_inj.mp (by rw [pk_sub_toInt (by omega) (by omega)]; rw [z0]; omega)
      rcases t with ⟨k, k1, k2, k3, k4⟩ | ⟨t, _⟩
      · by_cases hk : k < i
        · have := hI k hk
          omega
        · by_cases hk2 : k = i
          · rw [hk2] at k4
            omega
          · exact hne (k3 i (by omega))
      · exact hne (t i (by omega) (by omega))
    · have y' : ¬ (0 : Int32).toInt ≤ (nI (zt_sl a i) - nI (zt_sl b i)).toInt := fun q => y (Int32.le_iff_toInt_le.mpr q)
      have z0 : (0 : Int32).toInt = 0 := rfl
      omega
theorem zt_comesBefore {post : Int32 → Prop} {u : St2} {a b : Nat} (ha : a < 2 ^ 31) (hb : b < 2 ^ 31) (h1 : zt_cb a b → post 1) (h0 : ¬ zt_cb a b → post 0) : wpX_comesBefore post u (nI a) (nI b) := by
  unfold wpX_comesBefore
  have la := zt_ly_le a
  have lb := zt_ly_le b
  refine zt_layersOf ha (zt_layersOf hb ?_)
  exact pk_le (zt_ly b) (zt_ly a) (fun z => zt_layersOf hb (zt_cbL ha hb (by omega) h1 h0)) (fun z => zt_layersOf ha (zt_cbL ha hb (by omega) h1 h0))
theorem zt_cell {post : Int32 → Prop} {L : Nat} {xs : Nat → Int32} {u : St2} {j : Nat} (hL : L < 2 ^ 31) (hj : j < 2 ^ 31) (h : ∀ v, post v) : wpL_cell post L xs u (nI j) :=
  pk_le L j (fun _ => h _) (fun z => ⟨pk_in j L z rfl hL, h _⟩) rfl rfl hL hj
theorem zt_lword {post : Int32 → Prop} {u : St2} {d : Int32} (h : ∀ w, zt_word w → post (nI w)) : wpL_word post u d := by
  unfold wpL_word
  refine ⟨by decide, ?_⟩
  obtain ⟨j, hj, e⟩ := pk_andE d (m := 7) 3 (by decide)
  rw [e]
  have e6 : nI j - nI j / 6 * 6 = nI (j % 6) := pk_rem (a := j) (d := 6) (by omega) (by decide) (by decide)
  refine nm_r (e' := nI (1 + j % 6)) (by rw [e6, show (1 : Int32) = nI 1 from rfl, nI_add]) ?_
  refine pk_loop (σ := Int32) (fun n i s => wL_word_14 post d (nI (1 + j % 6)) n s (nI i)) (fun i s => ∃ w, s = nI w ∧ 2 ^ (3 * i) ≤ w ∧ w < 2 * 2 ^ (3 * i)) (1 + j % 6) 0 1 (Nat.zero_le _) ⟨1, rfl, by decide, by decide⟩ ?_ ?_
  · intro n s hI
    obtain ⟨w, e1, e2, e3⟩ := hI
    refine pk_le (1 + j % 6) (1 + j % 6) (fun _ => ?_) (fun z => absurd z (by omega))
    rw [e1]
    refine h w ((zt_word_iff w).mpr ?_)
    have hk : j % 6 = 0 ∨ j % 6 = 1 ∨ j % 6 = 2 ∨ j % 6 = 3 ∨ j % 6 = 4 ∨ j % 6 = 5 := by omega
    rcases hk with k | k | k | k | k | k
    all_goals (rw [k] at e2 e3; simp only [Nat.reduceAdd, Nat.reduceMul, Nat.reducePow] at e2 e3; omega)
  · intro n i s hi hI hw
    obtain ⟨w, e1, e2, e3⟩ := hI
    refine pk_le (1 + j % 6) i (fun z => absurd z (by omega)) (fun _ => ?_)
    obtain ⟨x, hx, ex⟩ := pk_andE (d >>> ((3 + (3 * nI i)) &&& 31)) (m := 7) 3 (by decide)
    rw [ex]
    refine nm_e ?_
    have key : ∀ x, x < 8 → ∃ w', 8 * s + nI x = nI w' ∧ 2 ^ (3 * (i + 1)) ≤ w' ∧ w' < 2 * 2 ^ (3 * (i + 1)) := by
      intro x hx
      refine ⟨8 * w + x, by rw [e1, show (8 : Int32) = nI 8 from rfl, pk_mul, nI_add], ?_⟩
      rw [show 3 * (i + 1) = 3 * i + 3 by omega, Nat.pow_add]
      omega
    refine br_c (fun _ => ?_) (fun _ => ?_)
    · have hx1 : nI x &&& 1 = nI (x % 2 ^ 1) := pk_andN (by omega) 1 (by decide)
      rw [hx1]
      exact nm_e (nm_r (nI_1 i) (hw _ (key _ (by omega))))
    · exact nm_e (nm_r (nI_1 i) (hw _ (key _ (by omega))))
end
section
/-- the path of a word's first i slices, the last one first -/
def zt_pre (w : Nat) : Nat → List Nat
  | 0 => []
  | i + 1 => zt_sl w i :: zt_pre w i
/-- the word that a path spells -/
def zt_code : List Nat → Nat
  | [] => 1
  | s :: p => if s % 9 = 0 then 8 * zt_code p + s / 9 - 1 else 8 * (8 * zt_code p + s / 9 - 1) + s % 9 - 1
def zt_inn : List Nat → Prop
  | [] => True
  | s :: p => 9 ≤ s ∧ s ≤ 80 ∧ s % 9 ≠ 0 ∧ zt_inn p
def zt_ok : List Nat → Prop
  | [] => False
  | s :: p => 9 ≤ s ∧ s ≤ 80 ∧ zt_inn p ∧ p.length ≤ 2
theorem zt_pre_len (w i : Nat) : (zt_pre w i).length = i := by
  induction i with
  | zero => rfl
  | succ i ih => simp [zt_pre, ih]
theorem zt_d1 {w a : Nat} (ha : a < 8) (e : w = 8 + a) : zt_sz w = 1 ∧ zt_sl w 0 = 9 * (a + 1) := by
  have h : zt_sz w = 1 := by
    have := zt_sz_cases w
    omega
  refine ⟨h, ?_⟩
  unfold zt_sl
  rw [h]
  simp only [Nat.reduceMul, Nat.reduceAdd, Nat.reduceSub, Nat.reducePow, Nat.reduceLT, if_true, if_false, Nat.lt_irrefl]
  omega
theorem zt_d2 {w a b : Nat} (ha : a < 8) (hb : b < 8) (e : w = 64 + 8 * a + b) : zt_sz w = 2 ∧ zt_sl w 0 = 9 * (a + 1) + b + 1 := by
  have h : zt_sz w = 2 := by
    have := zt_sz_cases w
    omega
  refine ⟨h, ?_⟩
  unfold zt_sl
  rw [h]
  simp only [Nat.reduceMul, Nat.reduceAdd, Nat.reduceSub, Nat.reducePow, Nat.reduceLT, if_true, if_false]
  omega
theorem zt_d3 {w a b c : Nat} (ha : a < 8) (hb : b < 8) (hc : c < 8) (e : w = 512 + 64 * a + 8 * b + c) : zt_sz w = 3 ∧ zt_sl w 0 = 9 * (a + 1) + b + 1 ∧ zt_sl w 1 = 9 * (c + 1) := by
  have h : zt_sz w = 3 := by
    have := zt_sz_cases w
    omega
  unfold zt_sl
  rw [h]
  simp only [Nat.reduceMul, Nat.reduceAdd, Nat.reduceSub, Nat.reducePow, Nat.reduceLT, if_true, if_false, Nat.lt_irrefl]
  refine ⟨trivial, ?_, ?_⟩ <;> omega
theorem zt_d4 {w a b c d : Nat} (ha : a < 8) (hb : b < 8) (hc : c < 8) (hd : d < 8) (e : w = 4096 + 512 * a + 64 * b + 8 * c + d) : zt_sz w = 4 ∧ zt_sl w 0 = 9 * (a + 1) + b + 1 ∧ zt_sl w 1 = 9 * (c + 1) + d + 1 := by
  have h : zt_sz w = 4 := by
    have := zt_sz_cases w
    omega
  unfold zt_sl
  rw [h]
  simp only [Nat.reduceMul, Nat.reduceAdd, Nat.reduceSub, Nat.reducePow, Nat.reduceLT, if_true, if_false, Nat.lt_irrefl]
  refine ⟨trivial, ?_, ?_⟩ <;> omega
theorem zt_d5 {w a b c d f : Nat} (ha : a < 8) (hb : b < 8) (hc : c < 8) (hd : d < 8) (hf : f < 8) (e : w = 32768 + 4096 * a + 512 * b + 64 * c + 8 * d + f) : zt_sz w = 5 ∧ zt_sl w 0 = 9 * (a + 1) + b + 1 ∧ zt_sl w 1 = 9 * (c + 1) + d + 1 ∧ zt_sl w 2 = 9 * (f + 1) := by
  have h : zt_sz w = 5 := by
    have := zt_sz_cases w
    omega
  unfold zt_sl
  rw [h]
  simp only [Nat.reduceMul, Nat.reduceAdd, Nat.reduceSub, Nat.reducePow, Nat.reduceLT, if_true, if_false, Nat.lt_irrefl]
  refine ⟨trivial, ?_, ?_, ?_⟩ <;> omega
theorem zt_d6 {w a b c d f g : Nat} (ha : a < 8) (hb : b < 8) (hc : c < 8) (hd : d < 8) (hf : f < 8) (hg : g < 8) (e : w = 262144 + 32768 * a + 4096 * b + 512 * c + 64 * d + 8 * f + g) : zt_sz w = 6 ∧ zt_sl w 0 = 9 * (a + 1) + b + 1 ∧ zt_sl w 1 = 9 * (c + 1) + d + 1 ∧ zt_sl w 2 = 9 * (f + 1) + g + 1 := by
  have h : zt_sz w = 6 := by
    have := zt_sz_cases w
    omega
  unfold zt_sl
  rw [h]
  simp only [Nat.reduceMul, Nat.reduceAdd, Nat.reduceSub, Nat.reducePow, Nat.reduceLT, if_true, if_false, Nat.lt_irrefl]
  refine ⟨trivial, ?_, ?_, ?_⟩ <;> omega
theorem zt_c1 (a : Nat) (p : List Nat) : zt_code (9 * (a + 1) :: p) = 8 * zt_code p + a := by
  show (if (9 * (a + 1)) % 9 = 0 then _ else _) = _
  rw [if_pos (by omega)]
  omega
theorem zt_c2 (a b : Nat) (p : List Nat) (hb : b < 8) : zt_code ((9 * (a + 1) + b + 1) :: p) = 64 * zt_code p + 8 * a + b := by
  show (if (9 * (a + 1) + b + 1) % 9 = 0 then _ else _) = _
  rw [if_neg (by omega)]
  omega
theorem zt_c0 : zt_code [] = 1 := rfl
theorem zt_s2 {s : Nat} (h1 : 9 ≤ s) (h2 : s ≤ 80) (h3 : s % 9 ≠ 0) : ∃ a b, a < 8 ∧ b < 8 ∧ s = 9 * (a + 1) + b + 1 := ⟨s / 9 - 1, s % 9 - 1, by omega, by omega, by omega⟩
theorem zt_s1 {s : Nat} (h1 : 9 ≤ s) (h2 : s ≤ 80) (h3 : s % 9 = 0) : ∃ a, a < 8 ∧ s = 9 * (a + 1) := ⟨s / 9 - 1, by omega, by omega⟩
/-- a path's word is a word, and has that path -/
theorem zt_F2 {q : List Nat} (h : zt_ok q) : zt_word (zt_code q) ∧ zt_ly (zt_code q) = q.length ∧ zt_pre (zt_code q) q.length = q := by
  match q, h with
  | [s], h =>
    obtain ⟨h1, h2, _, _⟩ := h
    by_cases h3 : s % 9 = 0
    · obtain ⟨a, ha, rfl⟩ := zt_s1 h1 h2 h3
      have e : zt_code [9 * (a + 1)] = 8 + a := by rw [zt_c1, zt_c0]
      obtain ⟨k1, k2⟩ := zt_d1 ha e
      refine ⟨(zt_word_iff _).mpr (by omega), by unfold zt_ly; rw [k1]; rfl, ?_⟩
      show [zt_sl _ 0] = _
      rw [k2]
    · obtain ⟨a, b, ha, hb, rfl⟩ := zt_s2 h1 h2 h3
      have e : zt_code [9 * (a + 1) + b + 1] = 64 + 8 * a + b := by rw [zt_c2 _ _ _ hb, zt_c0]
      obtain ⟨k1, k2⟩ := zt_d2 ha hb e
      refine ⟨(zt_word_iff _).mpr (by omega), by unfold zt_ly; rw [k1]; rfl, ?_⟩
      show [zt_sl _ 0] = _
      rw [k2]
  | [s, r], h =>
    obtain ⟨h1, h2, ⟨g1, g2, g3, _⟩, _⟩ := h
    obtain ⟨a, b, ha, hb, rfl⟩ := zt_s2 g1 g2 g3
    by_cases h3 : s % 9 = 0
    · obtain ⟨c, hc, rfl⟩ := zt_s1 h1 h2 h3
      have e : zt_code [9 * (c + 1), 9 * (a + 1) + b + 1] = 512 + 64 * a + 8 * b + c := by
        rw [zt_c1, zt_c2 _ _ _ hb, zt_c0]
        omega
      obtain ⟨k1, k2, k3⟩ := zt_d3 ha hb hc e
      refine ⟨(zt_word_iff _).mpr (by omega), by unfold zt_ly; rw [k1]; rfl, ?_⟩
      show [zt_sl _ 1, zt_sl _ 0] = _
      rw [k2, k3]
    · obtain ⟨c, d, hc, hd, rfl⟩ := zt_s2 h1 h2 h3
      have e : zt_code [9 * (c + 1) + d + 1, 9 * (a + 1) + b + 1] = 4096 + 512 * a + 64 * b + 8 * c + d := by
        rw [zt_c2 _ _ _ hd, zt_c2 _ _ _ hb, zt_c0]
        omega
      obtain ⟨k1, k2, k3⟩ := zt_d4 ha hb hc hd e
      refine ⟨(zt_word_iff _).mpr (by omega), by unfold zt_ly; rw [k1]; rfl, ?_⟩
      show [zt_sl _ 1, zt_sl _ 0] = _
      rw [k2, k3]
  | [s, r, t], h =>
    obtain ⟨h1, h2, ⟨g1, g2, g3, ⟨f1, f2, f3, _⟩⟩, _⟩ := h
    obtain ⟨a, b, ha, hb, rfl⟩ := zt_s2 f1 f2 f3
    obtain ⟨c, d, hc, hd, rfl⟩ := zt_s2 g1 g2 g3
    by_cases h3 : s % 9 = 0
    · obtain ⟨f, hf, rfl⟩ := zt_s1 h1 h2 h3
      have e : zt_code [9 * (f + 1), 9 * (c + 1) + d + 1, 9 * (a + 1) + b + 1] = 32768 + 4096 * a + 512 * b + 64 * c + 8 * d + f := by
        rw [zt_c1, zt_c2 _ _ _ hd, zt_c2 _ _ _ hb, zt_c0]
        omega
      obtain ⟨k1, k2, k3, k4⟩ := zt_d5 ha hb hc hd hf e
      refine ⟨(zt_word_iff _).mpr (by omega), by unfold zt_ly; rw [k1]; rfl, ?_⟩
      show [zt_sl _ 2, zt_sl _ 1, zt_sl _ 0] = _
      rw [k2, k3, k4]
    · obtain ⟨f, g, hf, hg, rfl⟩ := zt_s2 h1 h2 h3
      have e : zt_code [9 * (f + 1) + g + 1, 9 * (c + 1) + d + 1, 9 * (a + 1) + b + 1] = 262144 + 32768 * a + 4096 * b + 512 * c + 64 * d + 8 * f + g := by
        rw [zt_c2 _ _ _ hg, zt_c2 _ _ _ hd, zt_c2 _ _ _ hb, zt_c0]
        omega
      obtain ⟨k1, k2, k3, k4⟩ := zt_d6 ha hb hc hd hf hg e
      refine ⟨(zt_word_iff _).mpr (by omega), by unfold zt_ly; rw [k1]; rfl, ?_⟩
      show [zt_sl _ 2, zt_sl _ 1, zt_sl _ 0] = _
      rw [k2, k3, k4]
/-- a word's path is a path, and spells it -/
theorem zt_F1 {w : Nat} (h : zt_word w) : zt_ok (zt_pre w (zt_ly w)) ∧ zt_code (zt_pre w (zt_ly w)) = w ∧ 1 ≤ zt_ly w ∧ zt_ly w ≤ 3 := by
  rcases (zt_word_iff w).mp h with k | k | k | k | k | k
  · obtain ⟨k1, k2⟩ := zt_d1 (w := w) (a := w - 8) (by omega) (by omega)
    have e : zt_ly w = 1 := by unfold zt_ly; rw [k1]
    rw [e]
    have ep : zt_pre w 1 = [9 * ((w - 8) + 1)] := by
      show [zt_sl _ 0] = _
      rw [k2]
    rw [ep]
    refine ⟨⟨by omega, by omega, trivial, by decide⟩, ?_, by decide, by decide⟩
    rw [zt_c1, zt_c0]
    omega
  · obtain ⟨k1, k2⟩ := zt_d2 (w := w) (a := w / 8 % 8) (b := w % 8) (by omega) (by omega) (by omega)
    have e : zt_ly w = 1 := by unfold zt_ly; rw [k1]
    rw [e]
    have ep : zt_pre w 1 = [9 * (w / 8 % 8 + 1) + w % 8 + 1] := by
      show [zt_sl _ 0] = _
      rw [k2]
    rw [ep]
    refine ⟨⟨by omega, by omega, trivial, by decide⟩, ?_, by decide, by decide⟩
    rw [zt_c2 _ _ _ (by omega), zt_c0]
    omega
  · obtain ⟨k1, k2, k3⟩ := zt_d3 (w := w) (a := w / 64 % 8) (b := w / 8 % 8) (c := w % 8) (by omega) (by omega) (by omega) (by omega)
    have e : zt_ly w = 2 := by unfold zt_ly; rw [k1]
    rw [e]
    have ep : zt_pre w 2 = [9 * (w % 8 + 1), 9 * (w / 64 % 8 + 1) + w / 8 % 8 + 1] := by
      show [zt_sl _ 1, zt_sl _ 0] = _
      rw [k2, k3]
    rw [ep]
    refine ⟨⟨by omega, by omega, ⟨by omega, by omega, by omega, trivial⟩, by simp⟩, ?_, by decide, by decide⟩
    rw [zt_c1, zt_c2 _ _ _ (by omega), zt_c0]
    omega
  · obtain ⟨k1, k2, k3⟩ := zt_d4 (w := w) (a := w / 512 % 8) (b := w / 64 % 8) (c := w / 8 % 8) (d := w % 8) (by omega) (by omega) (by omega) (by omega) (by omega)
    have e : zt_ly w = 2 := by unfold zt_ly; rw [k1]
    rw [e]
    have ep : zt_pre w 2 = [9 * (w / 8 % 8 + 1) + w % 8 + 1, 9 * (w / 512 % 8 + 1) + w / 64 % 8 + 1] := by
      show [zt_sl _ 1, zt_sl _ 0] = _
      rw [k2, k3]
    rw [ep]
    refine ⟨⟨by omega, by omega, ⟨by omega, by omega, by omega, trivial⟩, by simp⟩, ?_, by decide, by decide⟩
    rw [zt_c2 _ _ _ (by omega), zt_c2 _ _ _ (by omega), zt_c0]
    omega
  · obtain ⟨k1, k2, k3, k4⟩ := zt_d5 (w := w) (a := w / 4096 % 8) (b := w / 512 % 8) (c := w / 64 % 8) (d := w / 8 % 8) (f := w % 8) (by omega) (by omega) (by omega) (by omega) (by omega) (by omega)
    have e : zt_ly w = 3 := by unfold zt_ly; rw [k1]
    rw [e]
    have ep : zt_pre w 3 = [9 * (w % 8 + 1), 9 * (w / 64 % 8 + 1) + w / 8 % 8 + 1, 9 * (w / 4096 % 8 + 1) + w / 512 % 8 + 1] := by
      show [zt_sl _ 2, zt_sl _ 1, zt_sl _ 0] = _
      rw [k2, k3, k4]
    rw [ep]
    refine ⟨⟨by omega, by omega, ⟨by omega, by omega, by omega, ⟨by omega, by omega, by omega, trivial⟩⟩, by simp⟩, ?_, by decide, by decide⟩
    rw [zt_c1, zt_c2 _ _ _ (by omega), zt_c2 _ _ _ (by omega), zt_c0]
    omega
  · have ew : w = 262144 + 32768 * (w / 32768 % 8) + 4096 * (w / 4096 % 8) + 512 * (w / 512 % 8) + 64 * (w / 64 % 8) + 8 * (w / 8 % 8) + w % 8 := by omega
    obtain ⟨k1, k2, k3, k4⟩ := zt_d6 (w := w) (a := w / 32768 % 8) (b := w / 4096 % 8) (c := w / 512 % 8) (d := w / 64 % 8) (f := w / 8 % 8) (g := w % 8) (by omega) (by omega) (by omega) (by omega) (by omega) (by omega) (by omega)
    have e : zt_ly w = 3 := by unfold zt_ly; rw [k1]
    rw [e]
    have ep : zt_pre w 3 = [9 * (w / 8 % 8 + 1) + w % 8 + 1, 9 * (w / 512 % 8 + 1) + w / 64 % 8 + 1, 9 * (w / 32768 % 8 + 1) + w / 4096 % 8 + 1] := by
      show [zt_sl _ 2, zt_sl _ 1, zt_sl _ 0] = _
      rw [k2, k3, k4]
    rw [ep]
    refine ⟨⟨by omega, by omega, ⟨by omega, by omega, by omega, ⟨by omega, by omega, by omega, trivial⟩⟩, by simp⟩, ?_, by decide, by decide⟩
    rw [zt_c2 _ _ _ (by omega), zt_c2 _ _ _ (by omega), zt_c2 _ _ _ (by omega), zt_c0]
    have el : ∀ a b c d f g : Nat, 64 * (64 * (64 * 1 + 8 * a + b) + 8 * c + d) + 8 * f + g = 262144 + 32768 * a + 4096 * b + 512 * c + 64 * d + 8 * f + g := by
      intro a b c d f g
      omega
    rw [el]
    exact ew.symm
theorem zt_inn_pre {w i : Nat} (h : zt_word w) (hi : i < zt_ly w) : zt_inn (zt_pre w i) := by
  obtain ⟨h1, _, _, h3⟩ := zt_F1 h
  have key : ∀ (l : List Nat) k, zt_inn l → zt_inn (l.drop k) := by
    intro l k
    induction k generalizing l with
    | zero => exact fun h => h
    | succ k ih =>
      cases l with
      | nil => exact fun h => h
      | cons a l => exact fun h => ih l h.2.2.2
  have kd : ∀ n m, zt_pre w (n + m) = (zt_pre w (n + m)).take m ++ zt_pre w n := by
    intro n m
    induction m with
    | zero => rfl
    | succ m ih =>
      show zt_sl w (n + m) :: zt_pre w (n + m) = (zt_sl w (n + m) :: zt_pre w (n + m)).take (m + 1) ++ _
      rw [List.take_succ_cons, List.cons_append, ← ih]
  obtain ⟨t, ht⟩ : ∃ t, zt_ly w = t + 1 := ⟨zt_ly w - 1, by omega⟩
  rw [ht] at h1 hi
  have h4 : zt_inn (zt_pre w t) := h1.2.2.1
  have h5 := kd i (t - i)
  rw [show i + (t - i) = t by omega] at h5
  have h6 := key _ (t - i) h4
  rw [h5, List.drop_left' (by rw [List.length_take, zt_pre_len]; omega)] at h6
  exact h6
end
section
/-- the 24 orders of four cells -/
def zt_ps : List (List Nat) := [[0, 1, 2, 3], [0, 1, 3, 2], [0, 2, 1, 3], [0, 2, 3, 1], [0, 3, 1, 2], [0, 3, 2, 1], [1, 0, 2, 3], [1, 0, 3, 2], [1, 2, 0, 3], [1, 2, 3, 0], [1, 3, 0, 2], [1, 3, 2, 0], [2, 0, 1, 3], [2, 0, 3, 1], [2, 1, 0, 3], [2, 1, 3, 0], [2, 3, 0, 1], [2, 3, 1, 0], [3, 0, 1, 2], [3, 0, 2, 1], [3, 1, 0, 2], [3, 1, 2, 0], [3, 2, 0, 1], [3, 2, 1, 0]]
def zt_en (n : Nat) (P : List Nat) : Nat := n + 16 * P.getD 0 0 + 256 * P.getD 1 0 + 4096 * P.getD 2 0 + 65536 * P.getD 3 0
/-- an order word shows the cells in use -/
def zt_ord (w : Int32) (cs : List Nat) : Prop := ∃ P, P ∈ zt_ps ∧ ∃ n, n ≤ 4 ∧ cs = P.take n ∧ w = nI (zt_en n P)
theorem zt_o1t : ∀ P, P ∈ zt_ps → ∀ n, n < 5 → nI (zt_en n P) &&& 15 = nI n ∧ (P.take n).length = n ∧ (P.take n).Nodup ∧ (∀ c, c ∈ P.take n → c < 4) := by decide +kernel
theorem zt_o2t : ∀ P, P ∈ zt_ps → ∀ n, n < 5 → ∀ k, k < 4 → (nI (zt_en n P) >>> (((4 * nI k) + 4) &&& 31)) &&& 15 = nI (P.getD k 0) := by decide +kernel
def zt_oi (n k : Nat) (P : List Nat) : List Nat := P.take k ++ P.getD n 0 :: ((P.take n).drop k ++ P.drop (n + 1))
theorem zt_o4t : ∀ P, P ∈ zt_ps → ∀ n, n < 4 → ∀ k, k < n + 1 →
    (((((((nI (zt_en n P) >>> ((4 : Int32) &&& 31)) &&& (((1 : Int32) <<< ((4 * nI k) &&& 31)) - 1)) ||| (nI (P.getD n 0) <<< ((4 * nI k) &&& 31))) ||| ((((nI (zt_en n P) >>> ((4 : Int32) &&& 31)) >>> ((4 * nI k) &&& 31)) &&& (((1 : Int32) <<< ((4 * (nI n - nI k)) &&& 31)) - 1)) <<< (((4 * nI k) + 4) &&& 31))) ||| (((nI (zt_en n P) >>> ((4 : Int32) &&& 31)) >>> (((4 * nI n) + 4) &&& 31)) <<< (((4 * nI n) + 4) &&& 31))) <<< ((4 : Int32) &&& 31)) ||| (nI n + 1)) = nI (zt_en (n + 1) (zt_oi n k P)) ∧ zt_oi n k P ∈ zt_ps ∧ (zt_oi n k P).take (n + 1) = (P.take n).take k ++ P.getD n 0 :: (P.take n).drop k ∧ P.getD n 0 < 4 ∧ P.getD n 0 ∉ P.take n := by decide +kernel
def zt_od (n k : Nat) (P : List Nat) : List Nat := P.take k ++ ((P.take n).drop (k + 1) ++ P.getD k 0 :: P.drop n)
theorem zt_o5t : ∀ P, P ∈ zt_ps → ∀ n, n < 5 → ∀ k, k < n →
    (((((((nI (zt_en n P) >>> ((4 : Int32) &&& 31)) &&& (((1 : Int32) <<< ((4 * nI k) &&& 31)) - 1)) ||| ((((nI (zt_en n P) >>> ((4 : Int32) &&& 31)) >>> (((4 * nI k) + 4) &&& 31)) &&& (((1 : Int32) <<< ((4 * ((nI n - 1) - nI k)) &&& 31)) - 1)) <<< ((4 * nI k) &&& 31))) ||| (nI (P.getD k 0) <<< ((4 * (nI n - 1)) &&& 31))) ||| (((nI (zt_en n P) >>> ((4 : Int32) &&& 31)) >>> ((4 * nI n) &&& 31)) <<< ((4 * nI n) &&& 31))) <<< ((4 : Int32) &&& 31)) ||| (nI n - 1)) = nI (zt_en (n - 1) (zt_od n k P)) ∧ zt_od n k P ∈ zt_ps ∧ (zt_od n k P).take (n - 1) = (P.take n).take k ++ (P.take n).drop (k + 1) := by decide +kernel
theorem zt_o6t : ∀ P, P ∈ zt_ps → (nI (zt_en 4 P) &&& (-16)) ||| 2 = nI (zt_en 2 P) := by decide +kernel
theorem zt_ord_len {w : Int32} {cs : List Nat} (h : zt_ord w cs) : w &&& 15 = nI cs.length ∧ cs.length ≤ 4 ∧ cs.Nodup ∧ ∀ c, c ∈ cs → c < 4 := by
  obtain ⟨P, hP, n, hn, rfl, rfl⟩ := h
  obtain ⟨h1, h2, h3, h4⟩ := zt_o1t P hP n (by omega)
  exact ⟨by rw [h2]; exact h1, by omega, h3, h4⟩
theorem zt_ord_at {w : Int32} {cs : List Nat} (h : zt_ord w cs) {k : Nat} (hk : k < cs.length) : (w >>> (((4 * nI k) + 4) &&& 31)) &&& 15 = nI (cs.getD k 0) := by
  obtain ⟨P, hP, n, hn, rfl, rfl⟩ := h
  obtain ⟨h1, h2, h3, h4⟩ := zt_o1t P hP n (by omega)
  rw [zt_o2t P hP n (by omega) k (by omega)]
  rw [h2] at hk
  congr 1
  simp only [List.getD_eq_getElem?_getD, List.getElem?_take]
  rw [if_pos hk]
theorem zt_ord_0 : zt_ord 205056 [] := ⟨[0, 1, 2, 3], by decide, 0, by decide, rfl, by decide⟩
theorem zt_ord_2 : zt_ord 205058 [0, 1] := ⟨[0, 1, 2, 3], by decide, 2, by decide, rfl, by decide⟩
theorem zt_ord_s {w : Int32} {cs : List Nat} (h : zt_ord w cs) (h4 : cs.length = 4) : zt_ord ((w &&& (-16)) ||| 2) (cs.take 2) := by
  obtain ⟨P, hP, n, hn, rfl, rfl⟩ := h
  obtain ⟨h1, h2, h3, _⟩ := zt_o1t P hP n (by omega)
  have e : n = 4 := by omega
  subst e
  exact ⟨P, hP, 2, by decide, by rw [List.take_take]; rfl, zt_o6t P hP⟩
/-- a cell more at place k -/
theorem zt_ord_i {w : Int32} {cs : List Nat} (h : zt_ord w cs) (h4 : cs.length < 4) : ∃ c, c < 4 ∧ c ∉ cs ∧ (w >>> (((4 * nI cs.length) + 4) &&& 31)) &&& 15 = nI c ∧ ∀ k, k ≤ cs.length →
    zt_ord (((((((w >>> ((4 : Int32) &&& 31)) &&& (((1 : Int32) <<< ((4 * nI k) &&& 31)) - 1)) ||| (nI c <<< ((4 * nI k) &&& 31))) ||| (((((w >>> ((4 : Int32) &&& 31)) >>> ((4 * nI k) &&& 31)) &&& (((1 : Int32) <<< ((4 * (nI cs.length - nI k)) &&& 31)) - 1))) <<< (((4 * nI k) + 4) &&& 31))) ||| (((w >>> ((4 : Int32) &&& 31)) >>> (((4 * nI cs.length) + 4) &&& 31)) <<< (((4 * nI cs.length) + 4) &&& 31))) <<< ((4 : Int32) &&& 31)) ||| (nI cs.length + 1)) (cs.take k ++ c :: cs.drop k) := by
  obtain ⟨P, hP, n, hn, rfl, rfl⟩ := h
  obtain ⟨h1, h2, h3, _⟩ := zt_o1t P hP n (by omega)
  rw [h2] at h4 ⊢
  refine ⟨P.getD n 0, (zt_o4t P hP n h4 0 (by omega)).2.2.2.1, (zt_o4t P hP n h4 0 (by omega)).2.2.2.2, zt_o2t P hP n (by omega) n h4, fun k hk => ?_⟩
  obtain ⟨g1, g2, g3, _⟩ := zt_o4t P hP n h4 k (by omega)
  exact ⟨zt_oi n k P, g2, n + 1, by omega, g3.symm, g1⟩
/-- the cell at place k out -/
theorem zt_ord_d {w : Int32} {cs : List Nat} (h : zt_ord w cs) {k : Nat} (hk : k < cs.length) :
    zt_ord (((((((w >>> ((4 : Int32) &&& 31)) &&& (((1 : Int32) <<< ((4 * nI k) &&& 31)) - 1)) ||| (((((w >>> ((4 : Int32) &&& 31)) >>> (((4 * nI k) + 4) &&& 31)) &&& (((1 : Int32) <<< ((4 * ((nI cs.length - 1) - nI k)) &&& 31)) - 1))) <<< ((4 * nI k) &&& 31))) ||| (nI (cs.getD k 0) <<< ((4 * (nI cs.length - 1)) &&& 31))) ||| (((w >>> ((4 : Int32) &&& 31)) >>> ((4 * nI cs.length) &&& 31)) <<< ((4 * nI cs.length) &&& 31))) <<< ((4 : Int32) &&& 31)) ||| (nI cs.length - 1)) (cs.take k ++ cs.drop (k + 1)) := by
  obtain ⟨P, hP, n, hn, rfl, rfl⟩ := h
  obtain ⟨h1, h2, h3, _⟩ := zt_o1t P hP n (by omega)
  rw [h2] at hk ⊢
  have e : (P.take n).getD k 0 = P.getD k 0 := by
    simp only [List.getD_eq_getElem?_getD, List.getElem?_take]
    rw [if_pos hk]
  rw [e]
  obtain ⟨g1, g2, g3⟩ := zt_o5t P hP n (by omega) k hk
  exact ⟨zt_od n k P, g2, n - 1, by omega, g3.symm, g1⟩
end
section
/-- a chain of nodes: a node's number, its cells in order, each with its slice -/
abbrev zt_Ch : Type := List (Nat × List (Nat × Nat))
def zt_ns (L : zt_Ch) : List Nat := L.map Prod.fst
def zt_ss (L : zt_Ch) : List Nat := L.flatMap (fun n => n.2.map Prod.snd)
def zt_hd (e : Int32) : zt_Ch → Int32
  | [] => e
  | n :: _ => nI n.1
def zt_ch (a1 a2 : Nat → Int32) : zt_Ch → Int32 → Prop
  | [], _ => True
  | n :: r, e => n.1 < 122 ∧ zt_ord (a1 n.1) (n.2.map Prod.fst) ∧ a2 n.1 = zt_hd e r ∧ zt_ch a1 a2 r e
theorem zt_hd_app (e : Int32) (A B : zt_Ch) : zt_hd e (A ++ B) = zt_hd (zt_hd e B) A := by
  cases A <;> rfl
theorem zt_ch_app {a1 a2 : Nat → Int32} {A B : zt_Ch} {e : Int32} : zt_ch a1 a2 (A ++ B) e ↔ zt_ch a1 a2 A (zt_hd e B) ∧ zt_ch a1 a2 B e := by
  induction A with
  | nil => simp [zt_ch]
  | cons n A ih =>
    simp only [List.cons_append, zt_ch, ih, zt_hd_app]
    constructor
    · rintro ⟨h1, h2, h3, h4, h5⟩
      exact ⟨⟨h1, h2, h3, h4⟩, h5⟩
    · rintro ⟨⟨h1, h2, h3, h4⟩, h5⟩
      exact ⟨h1, h2, h3, h4, h5⟩
theorem zt_ch_fr {a1 a2 a1' a2' : Nat → Int32} {L : zt_Ch} {e : Int32} (hf : ∀ b, b ∈ zt_ns L → a1' b = a1 b ∧ a2' b = a2 b) (h : zt_ch a1 a2 L e) : zt_ch a1' a2' L e := by
  induction L with
  | nil => exact trivial
  | cons n L ih =>
    obtain ⟨h1, h2, h3, h4⟩ := h
    obtain ⟨f1, f2⟩ := hf n.1 (by simp [zt_ns])
    refine ⟨h1, by rw [f1]; exact h2, by rw [f2]; exact h3, ih (fun b hb => hf b ?_) h4⟩
    unfold zt_ns at hb ⊢
    exact List.mem_cons_of_mem _ hb
theorem zt_ch_mem {a1 a2 : Nat → Int32} {L : zt_Ch} {e : Int32} (h : zt_ch a1 a2 L e) {n : Nat × List (Nat × Nat)} (hn : n ∈ L) : n.1 < 122 ∧ zt_ord (a1 n.1) (n.2.map Prod.fst) := by
  induction L with
  | nil => cases hn
  | cons m L ih =>
    rcases List.mem_cons.mp hn with rfl | hn
    · exact ⟨h.1, h.2.1⟩
    · exact ih h.2.2.2 hn
theorem zt_ss_mem {L : zt_Ch} {s : Nat} : s ∈ zt_ss L ↔ ∃ n c, n ∈ L ∧ (c, s) ∈ n.2 := by
  unfold zt_ss
  simp only [List.mem_flatMap, List.mem_map]
  constructor
  · rintro ⟨n, hn, ⟨c, t⟩, hx, rfl⟩
    exact ⟨n, c, hn, hx⟩
  · rintro ⟨n, c, hn, hx⟩
    exact ⟨n, hn, (c, s), hx, rfl⟩
theorem zt_ns_mem {L : zt_Ch} {b : Nat} : b ∈ zt_ns L ↔ ∃ n, n ∈ L ∧ n.1 = b := by
  unfold zt_ns
  exact List.mem_map
theorem zt_ss_app (A B : zt_Ch) : zt_ss (A ++ B) = zt_ss A ++ zt_ss B := by
  simp [zt_ss, List.flatMap_append]
theorem zt_ss_cons (n : Nat × List (Nat × Nat)) (B : zt_Ch) : zt_ss (n :: B) = n.2.map Prod.snd ++ zt_ss B := by
  simp [zt_ss]
theorem zt_ns_app (A B : zt_Ch) : zt_ns (A ++ B) = zt_ns A ++ zt_ns B := by
  simp [zt_ns]
theorem zt_ns_cons (n : Nat × List (Nat × Nat)) (B : zt_Ch) : zt_ns (n :: B) = n.1 :: zt_ns B := by
  simp [zt_ns]
theorem zt_nm1 {k : Nat} (h : k < 2 ^ 31) : ¬ nI k = -1 := by
  intro e
  have h1 := nI_toInt h
  rw [e] at h1
  have : (-1 : Int32).toInt = -1 := rfl
  omega
/-- what a walk along a chain reads -/
def zt_cm (a1 a2 a3 : Nat → Int32) (L : zt_Ch) : Prop := zt_ch a1 a2 L (-1) ∧ (∀ n c s, n ∈ L → (c, s) ∈ n.2 → a3 (4 * n.1 + c) = nI s ∧ s < 100) ∧ (zt_ss L).Pairwise (· < ·) ∧ (∀ n, n ∈ L.tail → n.2 ≠ [])
section
variable {ft fc fn fl fu : Int32} {a1 a2 a3 a4 a5 a6 a7 a8 a9 a10 a11 a12 : Nat → Int32}
theorem zt_sizeN {post : Int32 → Prop} {b : Nat} {cs : List Nat} (hb : b < 122) (ho : zt_ord (a1 b) cs) (h : post (nI cs.length)) : wpX_sizeOfNode post (ft, fc, fn, fl, fu, a1, a2, a3, a4, a5, a6, a7, a8, a9, a10, a11, a12) (nI b) := by
  refine ⟨pk_in b 122 hb, ?_⟩
  rw [nI_clamp (by omega), (zt_ord_len ho).1]
  exact h
theorem zt_entN {post : Int32 → Prop} {b k : Nat} {cs : List Nat} (hb : b < 122) (ho : zt_ord (a1 b) cs) (hk : k < cs.length) (h : post (nI (4 * b + cs.getD k 0))) : wpX_entryAt post (ft, fc, fn, fl, fu, a1, a2, a3, a4, a5, a6, a7, a8, a9, a10, a11, a12) (nI b) (nI k) := by
  refine ⟨pk_in b 122 hb, ?_⟩
  rw [nI_clamp (by omega), zt_ord_at ho hk, show (4 : Int32) = nI 4 from rfl, pk_mul, nI_add]
  exact h
theorem zt_cell4 {w : Int32} {es : List (Nat × Nat)} (ho : zt_ord w (es.map Prod.fst)) {c s : Nat} (h : (c, s) ∈ es) : c < 4 :=
  (zt_ord_len ho).2.2.2 c (List.mem_map.mpr ⟨(c, s), h, rfl⟩)
theorem zt_nfL {post : Int32 → Prop} {L : zt_Ch} {s : Nat} (hs : s < 100) (hc : zt_cm a1 a2 a3 L)
    (H : ∀ A n B, L = A ++ n :: B → (∀ t, t ∈ zt_ss A → t < s) → (∀ t, t ∈ zt_ss B → s < t) → (A ≠ [] → ∃ t, t ∈ n.2.map Prod.snd ∧ t ≤ s) → post (nI n.1)) :
    ∀ B A n, L = A ++ n :: B → (∀ t, t ∈ zt_ss A → t < s) → (A ≠ [] → ∃ t, t ∈ n.2.map Prod.snd ∧ t ≤ s) → ∃ f, wX_nodeFor_10 post (nI s) ft fc fn fl fu a1 a2 a3 a4 a5 a6 a7 a8 a9 a10 a11 a12 f (nI n.1) (zt_hd (-1) B) := by
  obtain ⟨h1, h2, h3, h4⟩ := hc
  intro B
  induction B with
  | nil =>
    intro A n e hA hAn
    exact ⟨1, br_t rfl (H A n [] e hA (fun t ht => by simp [zt_ss] at ht) hAn)⟩
  | cons m B ih =>
    intro A n e hA hAn
    rw [show zt_hd (-1) (m :: B) = nI m.1 from rfl]
    have hm : m ∈ L := by rw [e]; simp
    obtain ⟨m1, m2⟩ := zt_ch_mem h1 hm
    have hne : m.2 ≠ [] := by
      apply h4
      rw [e]
      cases A <;> simp
    obtain ⟨⟨c0, s0⟩, r, er⟩ := List.exists_cons_of_ne_nil hne
    obtain ⟨g1, g2⟩ := h2 m c0 s0 hm (by rw [er]; simp)
    have hc0 : c0 < 4 := zt_cell4 m2 (c := c0) (s := s0) (by rw [er]; simp)
    have e2 : zt_ss L = zt_ss A ++ (n.2.map Prod.snd ++ (s0 :: (r.map Prod.snd ++ zt_ss B))) := by
      rw [e, zt_ss_app, zt_ss_cons, zt_ss_cons, er]
      simp
    rw [e2] at h3
    have p1 := List.pairwise_append.mp h3
    have p2 := List.pairwise_append.mp p1.2.1
    have p3 := List.pairwise_cons.mp p2.2.1
    have a2m : a2 m.1 = zt_hd (-1) B := by
      have := h1
      rw [e, zt_ch_app] at this
      exact this.2.2.2.2.2.2.1
    by_cases hlt : s < s0
    · refine ⟨1, br_f (zt_nm1 (by omega)) (zt_entN (k := 0) m1 m2 (by rw [er]; simp) ?_)⟩
      have e0 : (m.2.map Prod.fst).getD 0 0 = c0 := by rw [er]; rfl
      rw [e0]
      refine ⟨pk_in (4 * m.1 + c0) 488 (by omega), ?_⟩
      rw [nI_clamp (by omega), g1]
      refine pk_lt s s0 (fun _ => H A n (m :: B) e hA ?_ hAn) (fun z => absurd z (by omega))
      intro t ht
      rw [zt_ss_cons, er] at ht
      simp only [List.map_cons, List.cons_append, List.mem_cons] at ht
      rcases ht with rfl | ht
      · exact hlt
      · have := p3.1 t ht
        omega
    · obtain ⟨f, hf⟩ := ih (A ++ [n]) m (by rw [e]; simp) (by
        intro t ht
        rw [zt_ss_app, List.mem_append] at ht
        rcases ht with ht | ht
        · exact hA t ht
        · have : t ∈ n.2.map Prod.snd := by simpa [zt_ss] using ht
          have := p2.2.2 t this s0 (by simp)
          omega) (fun _ => ⟨s0, by rw [er]; simp, Nat.le_of_not_lt hlt⟩)
      refine ⟨f + 1, br_f (zt_nm1 (by omega)) (zt_entN (k := 0) m1 m2 (by rw [er]; simp) ?_)⟩
      have e0 : (m.2.map Prod.fst).getD 0 0 = c0 := by rw [er]; rfl
      rw [e0]
      refine ⟨pk_in (4 * m.1 + c0) 488 (by omega), ?_⟩
      rw [nI_clamp (by omega), g1]
      refine pk_lt s s0 (fun z => absurd z hlt) (fun z => ⟨pk_in _ 122 m1, ?_⟩)
      rw [nI_clamp (by omega), a2m]
      exact nm_e hf
theorem zt_nodeFor {post : Int32 → Prop} {L : zt_Ch} {s : Nat} (hs : s < 100) (hc : zt_cm a1 a2 a3 L) (hL : L ≠ [])
    (H : ∀ A n B, L = A ++ n :: B → (∀ t, t ∈ zt_ss A → t < s) → (∀ t, t ∈ zt_ss B → s < t) → (A ≠ [] → ∃ t, t ∈ n.2.map Prod.snd ∧ t ≤ s) → post (nI n.1)) :
    wpX_nodeFor post (ft, fc, fn, fl, fu, a1, a2, a3, a4, a5, a6, a7, a8, a9, a10, a11, a12) (zt_hd (-1) L) (nI s) := by
  obtain ⟨n, B, e⟩ := List.exists_cons_of_ne_nil hL
  have h1 := hc.1
  rw [e] at h1
  have key := zt_nfL (ft := ft) (fc := fc) (fn := fn) (fl := fl) (fu := fu) (a4 := a4) (a5 := a5) (a6 := a6) (a7 := a7) (a8 := a8) (a9 := a9) (a10 := a10) (a11 := a11) (a12 := a12) hs hc H B [] n e (fun t ht => by simp [zt_ss] at ht) (fun z => absurd rfl z)
  have eh : zt_hd (-1) L = nI n.1 := by rw [e]; rfl
  rw [eh]
  refine ⟨pk_in _ 122 h1.1, ?_⟩
  have := h1.1
  rw [nI_clamp (by omega), h1.2.2.1]
  exact nm_e key
theorem zt_lsL {post : Int32 → Prop} {b s : Nat} {es : List (Nat × Nat)} (hs : s < 100) (hb : b < 122) (ho : zt_ord (a1 b) (es.map Prod.fst)) (h2 : ∀ c s, (c, s) ∈ es → a3 (4 * b + c) = nI s ∧ s < 100) (h3 : (es.map Prod.snd).Pairwise (· < ·))
    (H : ∀ e1 e2, es = e1 ++ e2 → (∀ x, x ∈ e1 → x.2 < s) → (∀ x, x ∈ e2 → s ≤ x.2) → post (nI e1.length)) :
    ∀ e2 e1, es = e1 ++ e2 → (∀ x, x ∈ e1 → x.2 < s) → ∃ f, wX_lesserIn_2 post (nI b) (nI s) ft fc fn fl fu a1 a2 a3 a4 a5 a6 a7 a8 a9 a10 a11 a12 f (nI e1.length) := by
  have hl := (zt_ord_len ho).2.1
  rw [List.length_map] at hl
  intro e2
  induction e2 with
  | nil =>
    intro e1 e h1
    refine ⟨0 + 1, ?_⟩
    unfold wX_lesserIn_2
    refine zt_sizeN hb ho ?_
    rw [List.length_map, e]
    rw [e] at hl
    simp only [List.append_nil] at hl ⊢
    exact pk_le e1.length e1.length (fun _ => H e1 [] e h1 (fun x hx => by cases hx)) (fun z => absurd z (by omega))
  | cons x e2 ih =>
    intro e1 e h1
    obtain ⟨c0, s0⟩ := x
    have hx : (c0, s0) ∈ es := by rw [e]; simp
    obtain ⟨g1, g2⟩ := h2 c0 s0 hx
    have hc0 := zt_cell4 ho hx
    have hlen : es.length = e1.length + (e2.length + 1) := by rw [e]; simp
    have e0 : (es.map Prod.fst).getD e1.length 0 = c0 := by
      rw [e]
      simp
    have hk : e1.length < (es.map Prod.fst).length := by
      rw [List.length_map, hlen]
      omega
    rw [e, List.map_append, List.map_cons] at h3
    have p2 := List.pairwise_cons.mp (List.pairwise_append.mp h3).2.1
    by_cases hlt : s0 < s
    · obtain ⟨f, hf⟩ := ih (e1 ++ [(c0, s0)]) (by rw [e]; simp) (by
        intro x hx
        rcases List.mem_append.mp hx with hx | hx
        · exact h1 x hx
        · rw [List.mem_singleton.mp hx]
          exact hlt)
      refine ⟨f + 1, ?_⟩
      unfold wX_lesserIn_2
      refine zt_sizeN hb ho ?_
      rw [List.length_map]
      refine pk_le es.length e1.length (fun z => absurd z (by omega)) (fun z => zt_entN hb ho hk ?_)
      rw [e0]
      refine ⟨pk_in (4 * b + c0) 488 (by omega), ?_⟩
      rw [nI_clamp (by omega), g1]
      refine pk_le s s0 (fun z => absurd z (by omega)) (fun _ => nm_r (nI_1 _) ?_)
      have : (e1 ++ [(c0, s0)]).length = e1.length + 1 := by simp
      rw [this] at hf
      exact hf
    · refine ⟨0 + 1, ?_⟩
      unfold wX_lesserIn_2
      refine zt_sizeN hb ho ?_
      rw [List.length_map]
      refine pk_le es.length e1.length (fun z => absurd z (by omega)) (fun z => zt_entN hb ho hk ?_)
      rw [e0]
      refine ⟨pk_in (4 * b + c0) 488 (by omega), ?_⟩
      rw [nI_clamp (by omega), g1]
      refine pk_le s s0 (fun _ => H e1 ((c0, s0) :: e2) e h1 ?_) (fun z => absurd z (by omega))
      intro x hx
      rcases List.mem_cons.mp hx with rfl | hx
      · exact Nat.le_of_not_lt hlt
      · have := p2.1 x.2 (List.mem_map.mpr ⟨x, hx, rfl⟩)
        omega
theorem zt_lesserIn {post : Int32 → Prop} {b s : Nat} {es : List (Nat × Nat)} (hs : s < 100) (hb : b < 122) (ho : zt_ord (a1 b) (es.map Prod.fst)) (h2 : ∀ c s, (c, s) ∈ es → a3 (4 * b + c) = nI s ∧ s < 100) (h3 : (es.map Prod.snd).Pairwise (· < ·))
    (H : ∀ e1 e2, es = e1 ++ e2 → (∀ x, x ∈ e1 → x.2 < s) → (∀ x, x ∈ e2 → s ≤ x.2) → post (nI e1.length)) :
    wpX_lesserIn post (ft, fc, fn, fl, fu, a1, a2, a3, a4, a5, a6, a7, a8, a9, a10, a11, a12) (nI b) (nI s) :=
  zt_lsL (ft := ft) (fc := fc) (fn := fn) (fl := fl) (fu := fu) (a2 := a2) (a4 := a4) (a5 := a5) (a6 := a6) (a7 := a7) (a8 := a8) (a9 := a9) (a10 := a10) (a11 := a11) (a12 := a12) hs hb ho h2 h3 H es [] rfl (fun x hx => by cases hx)
theorem zt_entryFor {post : Int32 → Prop} {L : zt_Ch} {s : Nat} (hs : s < 100) (hc : zt_cm a1 a2 a3 L)
    (hf : ∀ n c, n ∈ L → (c, s) ∈ n.2 → post (nI (4 * n.1 + c))) (hn : s ∉ zt_ss L → post (-1)) :
    wpX_entryFor post (ft, fc, fn, fl, fu, a1, a2, a3, a4, a5, a6, a7, a8, a9, a10, a11, a12) (zt_hd (-1) L) (nI s) := by
  by_cases hL : L = []
  · subst hL
    exact br_t rfl (hn (by simp [zt_ss]))
  · obtain ⟨h1, h2, h3, h4⟩ := hc
    have hne : ¬ zt_hd (-1) L = -1 := by
      obtain ⟨n, B, e⟩ := List.exists_cons_of_ne_nil hL
      rw [e] at h1 ⊢
      have := h1.1
      exact zt_nm1 (by omega)
    refine br_f hne (zt_nodeFor hs ⟨h1, h2, h3, h4⟩ hL ?_)
    intro A n B e hA hB _
    have hn' : n ∈ L := by rw [e]; simp
    obtain ⟨n1, n2⟩ := zt_ch_mem h1 hn'
    have hsn : (n.2.map Prod.snd).Pairwise (· < ·) := by
      rw [e, zt_ss_app, zt_ss_cons] at h3
      exact (List.pairwise_append.mp (List.pairwise_append.mp h3).2.1).1
    have hl := (zt_ord_len n2).2.1
    rw [List.length_map] at hl
    refine zt_lesserIn hs n1 n2 (fun c t hct => h2 n c t hn' hct) hsn ?_
    intro e1 e2 ee q1 q2
    refine zt_sizeN n1 n2 ?_
    rw [List.length_map]
    have hlen : n.2.length = e1.length + e2.length := by rw [ee]; simp
    have nin : s ∉ n.2.map Prod.snd → s ∉ zt_ss L := by
      intro k hk
      rw [e, zt_ss_app, zt_ss_cons, List.mem_append, List.mem_append] at hk
      rcases hk with hk | hk | hk
      · have := hA s hk
        omega
      · exact k hk
      · have := hB s hk
        omega
    refine pk_le n.2.length e1.length (fun z => hn (nin ?_)) (fun z => ?_)
    · intro hk
      obtain ⟨x, hx, ex⟩ := List.mem_map.mp hk
      have e2n : e2 = [] := List.length_eq_zero_iff.mp (by omega)
      rw [ee, e2n, List.append_nil] at hx
      have := q1 x hx
      omega
    · obtain ⟨⟨c0, s0⟩, r, er⟩ := List.exists_cons_of_ne_nil (l := e2) (by intro h; rw [h] at hlen; simp at hlen; omega)
      have hx : (c0, s0) ∈ n.2 := by rw [ee, er]; simp
      obtain ⟨g1, g2⟩ := h2 n c0 s0 hn' hx
      have hc0 := zt_cell4 n2 hx
      have hk : e1.length < (n.2.map Prod.fst).length := by
        rw [List.length_map]
        omega
      have e0 : (n.2.map Prod.fst).getD e1.length 0 = c0 := by
        rw [ee, er]
        simp
      refine zt_entN n1 n2 hk ?_
      rw [e0]
      refine ⟨pk_in (4 * n.1 + c0) 488 (by omega), ?_⟩
      rw [nI_clamp (by omega), g1]
      refine pk_eq s0 s (fun z => zt_entN n1 n2 hk ?_) (fun z => hn (nin ?_))
      · rw [e0]
        rw [z] at hx
        exact hf n c0 hn' hx
      · intro hk'
        obtain ⟨x, hx', ex⟩ := List.mem_map.mp hk'
        rw [ee] at hx'
        rcases List.mem_append.mp hx' with hx' | hx'
        · have := q1 x hx'
          omega
        · rw [ee, List.map_append, er, List.map_cons] at hsn
          have p2 := List.pairwise_cons.mp (List.pairwise_append.mp hsn).2.1
          have s0le := q2 (c0, s0) (by rw [er]; simp)
          rw [er] at hx'
          rcases List.mem_cons.mp hx' with rfl | hx'
          · exact z ex
          · have := p2.1 x.2 (List.mem_map.mpr ⟨x, hx', rfl⟩)
            simp only at s0le
            omega
end
end
section
def zt_b (x : Bool) : Int32 := if x then 1 else 0
/-- the picture's own facts -/
def zt_G (X E : List Nat → Prop) (K : List Nat → zt_Ch) (H : List Nat → Bool) : Prop :=
  (∀ p, (zt_ss (K p)).Pairwise (· < ·)) ∧
  (∀ p n, n ∈ K p → n.2 ≠ [] ∨ E p) ∧
  (∀ p s, s ∈ zt_ss (K p) → 9 ≤ s ∧ s ≤ 80 ∧ (X (s :: p) ∨ H (s :: p) = true ∨ K (s :: p) ≠ []) ∧ (K (s :: p) ≠ [] → s % 9 ≠ 0)) ∧
  (∀ p s, s ∉ zt_ss (K p) → K (s :: p) = [] ∧ H (s :: p) = false) ∧
  (∀ p, 3 ≤ p.length → K p = []) ∧
  H [] = false ∧
  (∀ p, (zt_ns (K p)).Nodup) ∧
  (∀ p q b, b ∈ zt_ns (K p) → b ∈ zt_ns (K q) → p = q)
/-- the arrays show the picture -/
def zt_M (K : List Nat → zt_Ch) (H : List Nat → Bool) (ft : Int32) (a1 a2 a3 a5 a6 : Nat → Int32) : Prop :=
  ft = zt_hd (-1) (K []) ∧ (∀ p, zt_ch a1 a2 (K p) (-1)) ∧
  (∀ p n c s, n ∈ K p → (c, s) ∈ n.2 → a3 (4 * n.1 + c) = nI s ∧ a5 (4 * n.1 + c) = zt_b (H (s :: p)) ∧ a6 (4 * n.1 + c) = zt_hd (-1) (K (s :: p)))
def zt_T (X E : List Nat → Prop) (K : List Nat → zt_Ch) (H : List Nat → Bool) (ft : Int32) (a1 a2 a3 a5 a6 : Nat → Int32) : Prop := zt_G X E K H ∧ zt_M K H ft a1 a2 a3 a5 a6
def zt_no : List Nat → Prop := fun _ => False
/-- the entry of a path -/
def zt_at (K : List Nat → zt_Ch) (q : List Nat) (e : Nat) : Prop := ∃ s p n c, q = s :: p ∧ n ∈ K p ∧ (c, s) ∈ n.2 ∧ e = 4 * n.1 + c
def zt_up (K : List Nat → zt_Ch) (p : List Nat) (L : zt_Ch) : List Nat → zt_Ch := fun q => if q = p then L else K q
def zt_hup (H : List Nat → Bool) (p : List Nat) (v : Bool) : List Nat → Bool := fun q => if q = p then v else H q
theorem zt_up_s {K : List Nat → zt_Ch} {p : List Nat} {L : zt_Ch} : zt_up K p L p = L := by simp [zt_up]
theorem zt_up_n {K : List Nat → zt_Ch} {p q : List Nat} {L : zt_Ch} (h : q ≠ p) : zt_up K p L q = K q := by simp [zt_up, h]
theorem zt_cne (s : Nat) (p : List Nat) : s :: p ≠ p := by
  intro h
  have := congrArg List.length h
  simp at this
theorem zt_c4 {K : List Nat → zt_Ch} {H : List Nat → Bool} {ft : Int32} {a1 a2 a3 a5 a6 : Nat → Int32} (h : zt_M K H ft a1 a2 a3 a5 a6) {p : List Nat} {n : Nat × List (Nat × Nat)} {c s : Nat} (hn : n ∈ K p) (hc : (c, s) ∈ n.2) : n.1 < 122 ∧ c < 4 := by
  obtain ⟨g1, g2⟩ := zt_ch_mem (h.2.1 p) hn
  exact ⟨g1, zt_cell4 g2 hc⟩
theorem zt_T_cm {X E : List Nat → Prop} {K : List Nat → zt_Ch} {H : List Nat → Bool} {ft : Int32} {a1 a2 a3 a5 a6 : Nat → Int32} (h : zt_T X E K H ft a1 a2 a3 a5 a6) (p : List Nat) (hE : ¬ E p ∨ (K p).tail = []) : zt_cm a1 a2 a3 (K p) := by
  obtain ⟨⟨g1, g2, g3, g4, g5, g6, g7, g8⟩, m1, m2, m3⟩ := h
  refine ⟨m2 p, fun n c s hn hc => ⟨(m3 p n c s hn hc).1, ?_⟩, g1 p, fun n hn => ?_⟩
  · have := (g3 p s (zt_ss_mem.mpr ⟨n, c, hn, hc⟩)).2.1
    omega
  · rcases hE with hE | hE
    · rcases g2 p n (List.mem_of_mem_tail hn) with k | k
      · exact k
      · exact absurd k hE
    · rw [hE] at hn
      cases hn
theorem zt_T_mono {X E X' E' : List Nat → Prop} {K : List Nat → zt_Ch} {H : List Nat → Bool} {ft : Int32} {a1 a2 a3 a5 a6 : Nat → Int32} (h : zt_T X E K H ft a1 a2 a3 a5 a6) (hX : ∀ s p, s ∈ zt_ss (K p) → X (s :: p) → X' (s :: p) ∨ H (s :: p) = true ∨ K (s :: p) ≠ []) (hE : ∀ p, E p → E' p ∨ ∀ n, n ∈ K p → n.2 ≠ []) : zt_T X' E' K H ft a1 a2 a3 a5 a6 := by
  obtain ⟨⟨g1, g2, g3, g4, g5, g6, g7, g8⟩, m⟩ := h
  refine ⟨⟨g1, fun p n hn => ?_, fun p s hs => ?_, g4, g5, g6, g7, g8⟩, m⟩
  · rcases g2 p n hn with k | k
    · exact Or.inl k
    · rcases hE p k with k | k
      · exact Or.inr k
      · exact Or.inl (k n hn)
  · obtain ⟨k1, k2, k3, k4⟩ := g3 p s hs
    refine ⟨k1, k2, ?_, k4⟩
    rcases k3 with k3 | k3
    · exact hX s p hs k3
    · exact Or.inr k3
/-- one chain of the picture changes: the rows that must be shown -/
theorem zt_upT {X E X' E' : List Nat → Prop} {K : List Nat → zt_Ch} {H : List Nat → Bool} {ft ft' : Int32} {a1 a2 a3 a5 a6 a1' a2' a3' a5' a6' : Nat → Int32} {p : List Nat} {L : zt_Ch} (h : zt_T X E K H ft a1 a2 a3 a5 a6)
    (hp : p.length ≤ 2) (ho : ∀ s q, p = s :: q → s ∈ zt_ss (K q) ∧ (L ≠ [] → s % 9 ≠ 0) ∧ (X' p ∨ H p = true ∨ L ≠ []))
    (hX : ∀ s q, q ≠ p → s :: q ≠ p → s ∈ zt_ss (K q) → X (s :: q) → X' (s :: q) ∨ H (s :: q) = true ∨ K (s :: q) ≠ [])
    (hE : ∀ q, q ≠ p → E q → E' q)
    (l1 : (zt_ss L).Pairwise (· < ·)) (l2 : ∀ n, n ∈ L → n.2 ≠ [] ∨ E' p)
    (l3 : ∀ s, s ∈ zt_ss L → 9 ≤ s ∧ s ≤ 80 ∧ (X' (s :: p) ∨ H (s :: p) = true ∨ K (s :: p) ≠ []) ∧ (K (s :: p) ≠ [] → s % 9 ≠ 0))
    (l4 : ∀ s, s ∉ zt_ss L → K (s :: p) = [] ∧ H (s :: p) = false)
    (l5 : (zt_ns L).Nodup) (l6 : ∀ q b, q ≠ p → b ∈ zt_ns L → b ∉ zt_ns (K q))
    (m0 : ft' = if p = [] then zt_hd (-1) L else ft)
    (m1 : zt_ch a1' a2' L (-1))
    (m2 : ∀ n c s, n ∈ L → (c, s) ∈ n.2 → a3' (4 * n.1 + c) = nI s ∧ a5' (4 * n.1 + c) = zt_b (H (s :: p)) ∧ a6' (4 * n.1 + c) = zt_hd (-1) (K (s :: p)))
    (m3 : ∀ q n, q ≠ p → n ∈ K q → a1' n.1 = a1 n.1 ∧ a2' n.1 = a2 n.1)
    (m4 : ∀ q n c s, q ≠ p → n ∈ K q → (c, s) ∈ n.2 → a3' (4 * n.1 + c) = a3 (4 * n.1 + c) ∧ a5' (4 * n.1 + c) = a5 (4 * n.1 + c) ∧ a6' (4 * n.1 + c) = (if s :: q = p then zt_hd (-1) L else a6 (4 * n.1 + c))) :
    zt_T X' E' (zt_up K p L) H ft' a1' a2' a3' a5' a6' := by
  obtain ⟨⟨g1, g2, g3, g4, g5, g6, g7, g8⟩, w1, w2, w3⟩ := h
  refine ⟨⟨?_, ?_, ?_, ?_, ?_, g6, ?_, ?_⟩, ?_, ?_, ?_⟩
  · intro q
    by_cases e : q = p
    · rw [e, zt_up_s]; exact l1
    · rw [zt_up_n e]; exact g1 q
  · intro q n hn
    by_cases e : q = p
    · rw [e, zt_up_s] at hn
      rw [e]; exact l2 n hn
    · rw [zt_up_n e] at hn
      rcases g2 q n hn with k | k
      · exact Or.inl k
      · exact Or.inr (hE q e k)
  · intro q s hs
    by_cases e : q = p
    · rw [e, zt_up_s] at hs
      rw [e, zt_up_n (zt_cne s p)]
      exact l3 s hs
    · rw [zt_up_n e] at hs
      obtain ⟨k1, k2, k3, k4⟩ := g3 q s hs
      by_cases e2 : s :: q = p
      · obtain ⟨o1, o2, o3⟩ := ho s q e2.symm
        rw [e2, zt_up_s]
        exact ⟨k1, k2, o3, o2⟩
      · rw [zt_up_n e2]
        refine ⟨k1, k2, ?_, k4⟩
        rcases k3 with k3 | k3
        · exact hX s q e e2 hs k3
        · exact Or.inr k3
  · intro q s hs
    by_cases e : q = p
    · rw [e, zt_up_s] at hs
      rw [e, zt_up_n (zt_cne s p)]
      exact l4 s hs
    · rw [zt_up_n e] at hs
      by_cases e2 : s :: q = p
      · exact absurd (ho s q e2.symm).1 hs
      · rw [zt_up_n e2]
        exact g4 q s hs
  · intro q hq
    by_cases e : q = p
    · rw [e] at hq
      omega
    · rw [zt_up_n e]
      exact g5 q hq
  · intro q
    by_cases e : q = p
    · rw [e, zt_up_s]; exact l5
    · rw [zt_up_n e]; exact g7 q
  · intro q r b hq hr
    by_cases e : q = p
    · by_cases e2 : r = p
      · rw [e, e2]
      · rw [e, zt_up_s] at hq
        rw [zt_up_n e2] at hr
        exact absurd hr (l6 r b e2 hq)
    · rw [zt_up_n e] at hq
      by_cases e2 : r = p
      · rw [e2, zt_up_s] at hr
        exact absurd hq (l6 q b e hr)
      · rw [zt_up_n e2] at hr
        exact g8 q r b hq hr
  · rw [m0]
    by_cases e : p = []
    · rw [if_pos e, e, zt_up_s]
    · rw [if_neg e, zt_up_n (fun k => e k.symm)]
      exact w1
  · intro q
    by_cases e : q = p
    · rw [e, zt_up_s]; exact m1
    · rw [zt_up_n e]
      refine zt_ch_fr (fun b hb => ?_) (w2 q)
      obtain ⟨n, hn, rfl⟩ := zt_ns_mem.mp hb
      exact m3 q n e hn
  · intro q n c s hn hc
    by_cases e : q = p
    · rw [e, zt_up_s] at hn
      rw [e, zt_up_n (zt_cne s p)]
      exact m2 n c s hn hc
    · rw [zt_up_n e] at hn
      obtain ⟨k1, k2, k3⟩ := m4 q n c s e hn hc
      obtain ⟨v1, v2, v3⟩ := w3 q n c s hn hc
      refine ⟨k1.trans v1, k2.trans v2, ?_⟩
      rw [k3]
      by_cases e2 : s :: q = p
      · rw [if_pos e2, e2, zt_up_s]
      · rw [if_neg e2, zt_up_n e2]
        exact v3
/-- the entry of a slice stands once in a chain -/
theorem zt_uni {L : zt_Ch} (h : (zt_ss L).Pairwise (· < ·)) {n n' : Nat × List (Nat × Nat)} {c c' s : Nat} (hn : n ∈ L) (hn' : n' ∈ L) (hc : (c, s) ∈ n.2) (hc' : (c', s) ∈ n'.2) : 4 * n.1 + c = 4 * n'.1 + c' := by
  induction L with
  | nil => cases hn
  | cons m L ih =>
    rw [zt_ss_cons] at h
    obtain ⟨h1, h2, h3⟩ := List.pairwise_append.mp h
    have inL : ∀ n c, n ∈ L → (c, s) ∈ n.2 → s ∈ zt_ss L := fun n c a b => zt_ss_mem.mpr ⟨n, c, a, b⟩
    have inm : ∀ c, (c, s) ∈ m.2 → s ∈ m.2.map Prod.snd := fun c a => List.mem_map.mpr ⟨(c, s), a, rfl⟩
    rcases List.mem_cons.mp hn with e | hn
    · rcases List.mem_cons.mp hn' with e' | hn'
      · rw [e] at hc ⊢
        rw [e'] at hc' ⊢
        have : c = c' := by
          clear ih h2 h3 inL inm h hn hn'
          generalize m.2 = l at hc hc' h1
          induction l with
          | nil => cases hc
          | cons x l ihl =>
            rw [List.map_cons, List.pairwise_cons] at h1
            rcases List.mem_cons.mp hc with k | k
            · rcases List.mem_cons.mp hc' with k' | k'
              · rw [← k'] at k
                injection k
              · have := h1.1 s (List.mem_map.mpr ⟨_, k', rfl⟩)
                rw [← k] at this
                simp at this
            · rcases List.mem_cons.mp hc' with k' | k'
              · have := h1.1 s (List.mem_map.mpr ⟨_, k, rfl⟩)
                rw [← k'] at this
                simp at this
              · exact ihl k k' h1.2
        rw [this]
      · rw [e] at hc
        exact absurd (h3 s (inm c hc) s (inL n' c' hn' hc')) (Nat.lt_irrefl s)
    · rcases List.mem_cons.mp hn' with e' | hn'
      · rw [e'] at hc'
        exact absurd (h3 s (inm c' hc') s (inL n c hn hc)) (Nat.lt_irrefl s)
      · exact ih h2 hn hn'
/-- a node's number stands once in a chain -/
theorem zt_nun {L : zt_Ch} (h : (zt_ns L).Nodup) {n n' : Nat × List (Nat × Nat)} (hn : n ∈ L) (hn' : n' ∈ L) (e : n.1 = n'.1) : n = n' := by
  induction L with
  | nil => cases hn
  | cons m L ih =>
    rw [zt_ns_cons, List.nodup_cons] at h
    rcases List.mem_cons.mp hn with k | k
    · rcases List.mem_cons.mp hn' with k' | k'
      · rw [k, k']
      · exact absurd (zt_ns_mem.mpr ⟨n', k', by rw [← e, k]⟩) h.1
    · rcases List.mem_cons.mp hn' with k' | k'
      · exact absurd (zt_ns_mem.mpr ⟨n, k, by rw [e, k']⟩) h.1
      · exact ih h.2 k k'
/-- a cell stands once in a node -/
theorem zt_cun {w : Int32} {es : List (Nat × Nat)} (h : zt_ord w (es.map Prod.fst)) {c s s' : Nat} (hs : (c, s) ∈ es) (hs' : (c, s') ∈ es) : s = s' := by
  have hd := (zt_ord_len h).2.2.1
  clear h
  induction es with
  | nil => cases hs
  | cons x es ih =>
    rw [List.map_cons, List.nodup_cons] at hd
    rcases List.mem_cons.mp hs with k | k
    · rcases List.mem_cons.mp hs' with k' | k'
      · rw [← k'] at k
        injection k
      · exact absurd (List.mem_map.mpr ⟨_, k', by rw [← k]⟩) hd.1
    · rcases List.mem_cons.mp hs' with k' | k'
      · exact absurd (List.mem_map.mpr ⟨_, k, by rw [← k']⟩) hd.1
      · exact ih k k' hd.2
/-- a path's word becomes held, or is no more -/
theorem zt_hupT {X E X' : List Nat → Prop} {K : List Nat → zt_Ch} {H : List Nat → Bool} {ft : Int32} {a1 a2 a3 a5 a6 : Nat → Int32} {q : List Nat} {e : Nat} {v : Bool} (h : zt_T X E K H ft a1 a2 a3 a5 a6)
    (ha : zt_at K q e) (hX : ∀ s p, s ∈ zt_ss (K p) → X (s :: p) → s :: p ≠ q → X' (s :: p) ∨ H (s :: p) = true ∨ K (s :: p) ≠ []) (hq : X' q ∨ v = true ∨ K q ≠ []) : zt_T X' E K (zt_hup H q v) ft a1 a2 a3 (upd a5 e (zt_b v)) a6 := by
  have hM := h.2
  obtain ⟨⟨g1, g2, g3, g4, g5, g6, g7, g8⟩, w1, w2, w3⟩ := h
  obtain ⟨s0, p0, n0, c0, rfl, hn0, hc0, rfl⟩ := ha
  refine ⟨⟨g1, g2, ?_, ?_, g5, ?_, g7, g8⟩, w1, w2, ?_⟩
  · intro p s hs
    obtain ⟨k1, k2, k3, k4⟩ := g3 p s hs
    refine ⟨k1, k2, ?_, k4⟩
    by_cases e : s :: p = s0 :: p0
    · rw [e]
      rcases hq with k | k | k
      · exact Or.inl k
      · right; left
        simp [zt_hup, k]
      · exact Or.inr (Or.inr k)
    · have eh : zt_hup H (s0 :: p0) v (s :: p) = H (s :: p) := by
        unfold zt_hup
        rw [if_neg e]
      rw [eh]
      rcases k3 with k3 | k3
      · exact hX s p hs k3 e
      · exact Or.inr k3
  · intro p s hs
    obtain ⟨k1, k2⟩ := g4 p s hs
    refine ⟨k1, ?_⟩
    have e : ¬ s :: p = s0 :: p0 := by
      intro e
      injection e with e1 e2
      rw [e1, e2] at hs
      exact hs (zt_ss_mem.mpr ⟨n0, c0, hn0, hc0⟩)
    unfold zt_hup
    rw [if_neg e]
    exact k2
  · unfold zt_hup
    rw [if_neg (by simp)]
    exact g6
  · intro p n c s hn hc
    obtain ⟨v1, v2, v3⟩ := w3 p n c s hn hc
    refine ⟨v1, ?_, v3⟩
    obtain ⟨b1, b2⟩ := zt_c4 hM hn hc
    obtain ⟨b3, b4⟩ := zt_c4 hM hn0 hc0
    by_cases e : s :: p = s0 :: p0
    · rw [e]
      injection e with e1 e2
      subst e1 e2
      have ev : zt_hup H (s :: p) v (s :: p) = v := by simp [zt_hup]
      rw [ev]
      have h0 := (w3 p n0 c0 s hn0 hc0)
      by_cases ee : 4 * n.1 + c = 4 * n0.1 + c0
      · rw [ee, pk_us]
      · exfalso
        exact ee (zt_uni (g1 p) hn hn0 hc hc0)
    · have eh : zt_hup H (s0 :: p0) v (s :: p) = H (s :: p) := by
        unfold zt_hup
        rw [if_neg e]
      rw [eh]
      rw [pk_un ?_]
      · exact v2
      · intro ee
        have e1 : n.1 = n0.1 := by omega
        have e2 : c = c0 := by omega
        have ep : p = p0 := g8 p p0 n.1 (zt_ns_mem.mpr ⟨n, hn, rfl⟩) (zt_ns_mem.mpr ⟨n0, hn0, e1.symm⟩)
        subst ep
        have en : n = n0 := zt_nun (g7 p) hn hn0 e1
        subst en
        subst e2
        have es : s = s0 := zt_cun (zt_ch_mem (w2 p) hn).2 hc hc0
        exact e (by rw [es])
end
section
theorem zt_at_m {X E : List Nat → Prop} {K : List Nat → zt_Ch} {H : List Nat → Bool} {ft : Int32} {a1 a2 a3 a5 a6 : Nat → Int32} (h : zt_T X E K H ft a1 a2 a3 a5 a6) {q : List Nat} {e : Nat} (ha : zt_at K q e) : e < 488 ∧ a5 e = zt_b (H q) ∧ a6 e = zt_hd (-1) (K q) := by
  obtain ⟨s, p, n, c, rfl, hn, hc, rfl⟩ := ha
  obtain ⟨b1, b2⟩ := zt_c4 h.2 hn hc
  obtain ⟨v1, v2, v3⟩ := h.2.2.2 p n c s hn hc
  exact ⟨by omega, v2, v3⟩
theorem zt_absent {X E : List Nat → Prop} {K : List Nat → zt_Ch} {H : List Nat → Bool} (h : zt_G X E K H) {w i : Nat} (hs : zt_sl w i ∉ zt_ss (K (zt_pre w i))) : ∀ d, K (zt_pre w (i + 1 + d)) = [] ∧ H (zt_pre w (i + 1 + d)) = false := by
  intro d
  induction d with
  | zero => exact h.2.2.2.1 _ _ hs
  | succ d ih =>
    refine h.2.2.2.1 (zt_pre w (i + 1 + d)) _ ?_
    rw [ih.1]
    simp [zt_ss]
section
variable {ft fc fn fl fu : Int32} {a1 a2 a3 a4 a5 a6 a7 a8 a9 a10 a11 a12 : Nat → Int32}
theorem zt_find {post : Int32 → Prop} {X : List Nat → Prop} {K : List Nat → zt_Ch} {H : List Nat → Bool} {w : Nat} (hw : zt_word w) (h : zt_T X zt_no K H ft a1 a2 a3 a5 a6)
    (hf : ∀ e, e < 488 → zt_at K (zt_pre w (zt_ly w)) e → a5 e = zt_b (H (zt_pre w (zt_ly w))) → post (nI e))
    (hn : H (zt_pre w (zt_ly w)) = false → post (-1)) : wpX_find post (ft, fc, fn, fl, fu, a1, a2, a3, a4, a5, a6, a7, a8, a9, a10, a11, a12) (nI w) := by
  have hwl := zt_row_lt hw.2
  have hly := (zt_F1 hw).2.2
  unfold wpX_find
  refine zt_layersOf (by omega) ?_
  refine pk_loop (σ := Int32 × Int32) (fun n i s => wX_find_16 post (nI w) (nI (zt_ly w)) ft fc fn fl fu a1 a2 a3 a4 a5 a6 a7 a8 a9 a10 a11 a12 n s.1 s.2 (nI i)) (fun i s => s.1 = zt_hd (-1) (K (zt_pre w i)) ∧ (0 < i → ∃ e, zt_at K (zt_pre w i) e ∧ s.2 = nI e)) (zt_ly w) 0 (ft, -1) (Nat.zero_le _) ⟨h.2.1, fun z => absurd z (by omega)⟩ ?_ ?_
  · rintro n ⟨x2, x3⟩ ⟨_, h2⟩
    obtain ⟨e, h3, h4⟩ := h2 (by omega)
    obtain ⟨e1, e2, _⟩ := zt_at_m h h3
    refine pk_le (zt_ly w) (zt_ly w) (fun _ => ?_) (fun z => absurd z (by omega))
    dsimp only at h4 ⊢
    rw [h4]
    exact hf e e1 h3 e2
  · rintro n i ⟨x2, x3⟩ hi ⟨h1, h2⟩ hw'
    dsimp only at h1 h2 ⊢
    rw [h1]
    have hb := zt_sl_b w i
    refine pk_le (zt_ly w) i (fun z => absurd z (by omega)) (fun _ => zt_sliceOf (by omega) hi (zt_entryFor (by omega) (zt_T_cm h _ (Or.inl (fun z => z))) ?_ ?_))
    · intro m c hm hc
      have ha : zt_at K (zt_pre w (i + 1)) (4 * m.1 + c) := ⟨_, _, m, c, rfl, hm, hc, rfl⟩
      obtain ⟨e1, e2, e3⟩ := zt_at_m h ha
      refine br_f (zt_nm1 (by omega)) ⟨pk_in _ 488 e1, ?_⟩
      rw [nI_clamp (by omega), e3]
      exact nm_e (nm_r (nI_1 i) (hw' (zt_hd (-1) (K (zt_pre w (i + 1))), nI (4 * m.1 + c)) ⟨rfl, fun _ => ⟨_, ha, rfl⟩⟩))
    · intro hs
      refine br_t rfl (hn ?_)
      have := (zt_absent h.1 hs (zt_ly w - (i + 1))).2
      rw [show i + 1 + (zt_ly w - (i + 1)) = zt_ly w by omega] at this
      exact this
end
end
section
/-- the free nodes: those in no chain -/
def zt_R (K : List Nat → zt_Ch) (fr : List Nat) (fc : Int32) (a7 : Nat → Int32) : Prop :=
  fc = nI fr.length ∧ (∀ i, i < fr.length → a7 i = nI (fr.getD i 0)) ∧ fr.Nodup ∧ (∀ b, b ∈ fr ↔ b < 122 ∧ ∀ p, b ∉ zt_ns (K p))
theorem zt_R_len {K : List Nat → zt_Ch} {fr : List Nat} {fc : Int32} {a7 : Nat → Int32} (h : zt_R K fr fc a7) : fr.length ≤ 122 := by
  have := List.Nodup.length_le_of_subset (l₁ := fr) (l₂ := List.range 122) h.2.2.1 (fun b hb => List.mem_range.mpr ((h.2.2.2 b).mp hb).1)
  rw [List.length_range] at this
  exact this
theorem zt_R_add {K : List Nat → zt_Ch} {f0 : List Nat} {b : Nat} {fc : Int32} {a7 : Nat → Int32} {p : List Nat} {L : zt_Ch} (h : zt_R K (f0 ++ [b]) fc a7) (hL : ∀ x, x ∈ zt_ns L ↔ x ∈ zt_ns (K p) ∨ x = b) : zt_R (zt_up K p L) f0 (nI f0.length) a7 := by
  obtain ⟨h1, h2, h3, h4⟩ := h
  obtain ⟨d1, _, d3⟩ := List.nodup_append.mp h3
  refine ⟨rfl, fun i hi => ?_, d1, fun x => ?_⟩
  · rw [h2 i (by simp; omega)]
    congr 1
    simp only [List.getD_eq_getElem?_getD]
    rw [List.getElem?_append_left hi]
  · constructor
    · intro hx
      obtain ⟨k1, k2⟩ := (h4 x).mp (List.mem_append.mpr (Or.inl hx))
      refine ⟨k1, fun q hq => ?_⟩
      by_cases e : q = p
      · rw [e, zt_up_s] at hq
        rcases (hL x).mp hq with k | k
        · exact k2 p k
        · exact d3 x hx b (by simp) k
      · rw [zt_up_n e] at hq
        exact k2 q hq
    · rintro ⟨k1, k2⟩
      have hb : x ≠ b := by
        intro e
        have := k2 p
        rw [zt_up_s] at this
        exact this ((hL x).mpr (Or.inr e))
      have hx : x ∈ f0 ++ [b] := by
        refine (h4 x).mpr ⟨k1, fun q hq => ?_⟩
        have := k2 q
        by_cases e : q = p
        · rw [e, zt_up_s] at this
          rw [e] at hq
          exact this ((hL x).mpr (Or.inl hq))
        · rw [zt_up_n e] at this
          exact this hq
      rcases List.mem_append.mp hx with k | k
      · exact k
      · exact absurd (List.mem_singleton.mp k) hb
theorem zt_R_same {K : List Nat → zt_Ch} {fr : List Nat} {fc : Int32} {a7 : Nat → Int32} {p : List Nat} {L : zt_Ch} (h : zt_R K fr fc a7) (hL : zt_ns L = zt_ns (K p)) : zt_R (zt_up K p L) fr fc a7 := by
  obtain ⟨h1, h2, h3, h4⟩ := h
  refine ⟨h1, h2, h3, fun x => ?_⟩
  have e : ∀ q, zt_ns (zt_up K p L q) = zt_ns (K q) := by
    intro q
    by_cases e : q = p
    · rw [e, zt_up_s]
      exact hL
    · rw [zt_up_n e]
  simp only [e]
  exact h4 x
theorem zt_R_give {K : List Nat → zt_Ch} {fr : List Nat} {b : Nat} {fc : Int32} {a7 : Nat → Int32} {p : List Nat} {L : zt_Ch} (h : zt_R K fr fc a7) (hb : b < 122) (hu : ∀ q, b ∈ zt_ns (K q) → q = p) (hp : b ∈ zt_ns (K p)) (hL : ∀ x, x ∈ zt_ns L ↔ x ∈ zt_ns (K p) ∧ x ≠ b) : zt_R (zt_up K p L) (fr ++ [b]) (nI (fr.length + 1)) (upd a7 fr.length (nI b)) := by
  obtain ⟨h1, h2, h3, h4⟩ := h
  have hbf : b ∉ fr := fun k => ((h4 b).mp k).2 p hp
  refine ⟨by rw [List.length_append]; rfl, fun i hi => ?_, ?_, fun x => ?_⟩
  · simp only [List.getD_eq_getElem?_getD]
    rw [List.length_append, List.length_singleton] at hi
    by_cases e : i = fr.length
    · rw [e, pk_us]
      simp
    · rw [pk_un e, h2 i (by omega)]
      congr 1
      rw [List.getElem?_append_left (by omega), List.getD_eq_getElem?_getD]
  · refine List.nodup_append.mpr ⟨h3, by simp, fun x hx y hy => ?_⟩
    rw [List.mem_singleton.mp hy]
    intro e
    rw [e] at hx
    exact hbf hx
  · rw [List.mem_append, List.mem_singleton]
    constructor
    · rintro (k | k)
      · obtain ⟨k1, k2⟩ := (h4 x).mp k
        refine ⟨k1, fun q hq => ?_⟩
        by_cases e : q = p
        · rw [e, zt_up_s] at hq
          exact k2 p ((hL x).mp hq).1
        · rw [zt_up_n e] at hq
          exact k2 q hq
      · rw [k]
        refine ⟨hb, fun q hq => ?_⟩
        by_cases e : q = p
        · rw [e, zt_up_s] at hq
          exact ((hL b).mp hq).2 rfl
        · rw [zt_up_n e] at hq
          exact e (hu q hq)
    · rintro ⟨k1, k2⟩
      by_cases e : x = b
      · exact Or.inr e
      · refine Or.inl ((h4 x).mpr ⟨k1, fun q hq => ?_⟩)
        have := k2 q
        by_cases e2 : q = p
        · rw [e2, zt_up_s] at this
          rw [e2] at hq
          exact this ((hL x).mpr ⟨hq, e⟩)
        · rw [zt_up_n e2] at this
          exact this hq
theorem zt_at_uni {X E : List Nat → Prop} {K : List Nat → zt_Ch} {H : List Nat → Bool} (h : zt_G X E K H) {q : List Nat} {e e' : Nat} (ha : zt_at K q e) (ha' : zt_at K q e') : e = e' := by
  obtain ⟨s, p, n, c, rfl, hn, hc, rfl⟩ := ha
  obtain ⟨s', p', n', c', e, hn', hc', rfl⟩ := ha'
  injection e with e1 e2
  subst e1 e2
  exact zt_uni (h.1 p) hn hn' hc hc'
theorem zt_at_inj {X E : List Nat → Prop} {K : List Nat → zt_Ch} {H : List Nat → Bool} {ft : Int32} {a1 a2 a3 a5 a6 : Nat → Int32} (h : zt_T X E K H ft a1 a2 a3 a5 a6) {q q' : List Nat} {e : Nat} (ha : zt_at K q e) (ha' : zt_at K q' e) : q = q' := by
  obtain ⟨s, p, n, c, rfl, hn, hc, rfl⟩ := ha
  obtain ⟨s', p', n', c', rfl, hn', hc', ee⟩ := ha'
  obtain ⟨b1, b2⟩ := zt_c4 h.2 hn hc
  obtain ⟨b3, b4⟩ := zt_c4 h.2 hn' hc'
  have e1 : n.1 = n'.1 := by omega
  have e2 : c = c' := by omega
  have ep : p = p' := h.1.2.2.2.2.2.2.2 p p' n.1 (zt_ns_mem.mpr ⟨n, hn, rfl⟩) (zt_ns_mem.mpr ⟨n', hn', e1.symm⟩)
  subst ep
  have en : n = n' := zt_nun (h.1.2.2.2.2.2.2.1 p) hn hn' e1
  subst en
  subst e2
  have es : s = s' := zt_cun (zt_ch_mem (h.2.2.1 p) hn).2 hc hc'
  rw [es]
/-- the place that keeps the head of a path's chain -/
def zt_own (K : List Nat → zt_Ch) (p : List Nat) (o : Int32) : Prop := (p = [] ∧ o = -1) ∨ ∃ e, zt_at K p e ∧ o = nI e
theorem zt_at_ne {K : List Nat → zt_Ch} {e : Nat} : ¬ zt_at K [] e := by
  rintro ⟨s, p, n, c, h, _⟩
  cases h
theorem zt_at_q {K : List Nat → zt_Ch} {s : Nat} {p : List Nat} {e : Nat} (h : zt_at K (s :: p) e) : s ∈ zt_ss (K p) := by
  obtain ⟨s', p', n', c', e, hn', hc', _⟩ := h
  injection e with e1 e2
  subst e1 e2
  exact zt_ss_mem.mpr ⟨n', c', hn', hc'⟩
section
variable {ft fc fn fl fu : Int32} {a1 a2 a3 a4 a5 a6 a7 a8 a9 a10 a11 a12 : Nat → Int32}
theorem zt_takeNode {post : Int32 → St1 → Prop} {K : List Nat → zt_Ch} {fr : List Nat} (h : zt_R K fr fc a7) (hne : fr ≠ [])
    (H : ∀ f0 b, fr = f0 ++ [b] → b < 122 → post (nI b) (ft, nI f0.length, fn, fl, fu, upd a1 b 205056, upd a2 b (-1), a3, a4, a5, a6, a7, a8, a9, a10, a11, a12)) : wpX_takeNode post (ft, fc, fn, fl, fu, a1, a2, a3, a4, a5, a6, a7, a8, a9, a10, a11, a12) := by
  have hl := zt_R_len h
  obtain ⟨f0, b, e⟩ : ∃ f0 b, fr = f0 ++ [b] := ⟨fr.dropLast, fr.getLast hne, (List.dropLast_concat_getLast hne).symm⟩
  have hb : b < 122 := ((h.2.2.2 b).mp (by rw [e]; simp)).1
  have hlen : fr.length = f0.length + 1 := by rw [e]; simp
  have e7 : a7 f0.length = nI b := by
    rw [h.2.1 f0.length (by omega), e]
    simp
  have hH := H f0 b e hb
  unfold wpX_takeNode
  refine nm_r (e' := nI f0.length) (by rw [h.1, hlen]; exact nI_pred _) ⟨pk_in f0.length 122 (by omega), ?_⟩
  rw [nI_clamp (by omega), e7]
  refine nm_e ⟨pk_in _ 122 hb, ?_⟩
  rw [nI_clamp (by omega)]
  exact nm_e ⟨pk_in _ 122 hb, nm_e hH⟩
theorem zt_setHead {post : St1 → Prop} {X E : List Nat → Prop} {K : List Nat → zt_Ch} {H : List Nat → Bool} {p : List Nat} {o x : Int32} (hG : zt_G X E K H) (hM : ∀ e, zt_at K p e → e < 488) (ho : zt_own K p o)
    (hp : ∀ ft' a6', (ft' = if p = [] then x else ft) → (∀ e, zt_at K p e → a6' e = x) → (∀ e, ¬ zt_at K p e → a6' e = a6 e) → post (ft', fc, fn, fl, fu, a1, a2, a3, a4, a5, a6', a7, a8, a9, a10, a11, a12)) : wpX_setHead post (ft, fc, fn, fl, fu, a1, a2, a3, a4, a5, a6, a7, a8, a9, a10, a11, a12) o x := by
  rcases ho with ⟨e, rfl⟩ | ⟨e, he, rfl⟩
  · refine br_t rfl (hp x a6 (by rw [if_pos e]) (fun e' h' => ?_) (fun _ _ => rfl))
    rw [e] at h'
    exact absurd h' zt_at_ne
  · have hlt := hM e he
    refine br_f (zt_nm1 (by omega)) ⟨pk_in _ 488 hlt, ?_⟩
    rw [nI_clamp (by omega)]
    refine nm_e (hp ft _ ?_ (fun e' h' => ?_) (fun e' h' => ?_))
    · rw [if_neg]
      intro k
      rw [k] at he
      exact zt_at_ne he
    · rw [zt_at_uni hG h' he, pk_us]
    · rw [pk_un]
      intro k
      rw [k] at h'
      exact h' he
/-- a fresh chain of one empty node -/
theorem zt_fresh {X : List Nat → Prop} {K : List Nat → zt_Ch} {H : List Nat → Bool} {p : List Nat} {b : Nat} {ft' : Int32} {a6' : Nat → Int32} (h : zt_T X zt_no K H ft a1 a2 a3 a5 a6) (hp : p.length ≤ 2) (ho : ∀ s q, p = s :: q → s ∈ zt_ss (K q) ∧ s % 9 ≠ 0) (hK : K p = []) (hb : b < 122) (hbK : ∀ q, b ∉ zt_ns (K q))
    (h0 : ft' = if p = [] then nI b else ft) (h1 : ∀ e, zt_at K p e → a6' e = nI b) (h2 : ∀ e, ¬ zt_at K p e → a6' e = a6 e) :
    zt_T X (fun q => q = p) (zt_up K p [(b, [])]) H ft' (upd a1 b 205056) (upd a2 b (-1)) a3 a5 a6' := by
  have hT := h
  obtain ⟨⟨g1, g2, g3, g4, g5, g6, g7, g8⟩, w1, w2, w3⟩ := h
  have ess : zt_ss [(b, [])] = [] := rfl
  refine zt_upT hT hp (fun s q e => ⟨(ho s q e).1, fun _ => (ho s q e).2, Or.inr (Or.inr (by simp))⟩) (fun s q _ _ _ k => Or.inl k) (fun q _ k => absurd k (fun z => z)) (by rw [ess]; exact List.Pairwise.nil) (fun n _ => Or.inr rfl) (fun s hs => by rw [ess] at hs; cases hs) (fun s _ => g4 p s (by rw [hK]; simp [zt_ss])) (by simp [zt_ns]) ?_ h0 ?_ ?_ ?_ ?_
  · intro q x _ hx
    have : x = b := by simpa [zt_ns] using hx
    rw [this]
    exact hbK q
  · refine ⟨hb, ?_, ?_, trivial⟩
    · show zt_ord (upd a1 b 205056 b) []
      rw [pk_us]
      exact zt_ord_0
    · show upd a2 b (-1) b = -1
      rw [pk_us]
  · intro n c s hn hc
    rw [List.mem_singleton.mp hn] at hc
    cases hc
  · intro q n _ hn
    have : n.1 ≠ b := by
      intro k
      exact hbK q (zt_ns_mem.mpr ⟨n, hn, k⟩)
    rw [pk_un this, pk_un this]
    exact ⟨rfl, rfl⟩
  · intro q n c s hq hn hc
    refine ⟨rfl, rfl, ?_⟩
    have ha : zt_at K (s :: q) (4 * n.1 + c) := ⟨s, q, n, c, rfl, hn, hc, rfl⟩
    by_cases e : s :: q = p
    · rw [if_pos e, h1 _ (by rw [← e]; exact ha)]
      rfl
    · rw [if_neg e]
      exact h2 _ (fun k => e (zt_at_inj hT ha k))
end
end
section
theorem zt_pw_ins {l1 l2 : List Nat} {s : Nat} (h : (l1 ++ l2).Pairwise (· < ·)) (h1 : ∀ t, t ∈ l1 → t < s) (h2 : ∀ t, t ∈ l2 → s < t) : (l1 ++ s :: l2).Pairwise (· < ·) := by
  obtain ⟨p1, p2, p3⟩ := List.pairwise_append.mp h
  refine List.pairwise_append.mpr ⟨p1, List.pairwise_cons.mpr ⟨h2, p2⟩, fun a ha b hb => ?_⟩
  rcases List.mem_cons.mp hb with rfl | hb
  · exact h1 a ha
  · exact p3 a ha b hb
theorem zt_hd_same (e : Int32) (A B : zt_Ch) (b : Nat) (x y : List (Nat × Nat)) : zt_hd e (A ++ (b, x) :: B) = zt_hd e (A ++ (b, y) :: B) := by
  cases A <;> rfl
theorem zt_ns_same (A B : zt_Ch) (b : Nat) (x y : List (Nat × Nat)) : zt_ns (A ++ (b, x) :: B) = zt_ns (A ++ (b, y) :: B) := by
  simp [zt_ns]
/-- the nodes beside b in its chain have other numbers -/
theorem zt_ns_ne {A B : zt_Ch} {b : Nat} {es : List (Nat × Nat)} (h : (zt_ns (A ++ (b, es) :: B)).Nodup) : (∀ n, n ∈ A → n.1 ≠ b) ∧ (∀ n, n ∈ B → n.1 ≠ b) := by
  rw [zt_ns_app, zt_ns_cons] at h
  obtain ⟨h1, h2, h3⟩ := List.nodup_append.mp h
  constructor
  · intro n hn
    exact h3 n.1 (zt_ns_mem.mpr ⟨n, hn, rfl⟩) b (by simp)
  · intro n hn e
    exact (List.nodup_cons.mp h2).1 (zt_ns_mem.mpr ⟨n, hn, e⟩)
/-- one node's cells change in place: what is left to show -/
theorem zt_nodeT {X E X' E' : List Nat → Prop} {K : List Nat → zt_Ch} {H : List Nat → Bool} {ft : Int32} {a1 a2 a3 a5 a6 a1' a3' a5' a6' : Nat → Int32} {p : List Nat} {A B : zt_Ch} {b : Nat} {es es' : List (Nat × Nat)} (h : zt_T X E K H ft a1 a2 a3 a5 a6)
    (hK : K p = A ++ (b, es) :: B) (hp : p.length ≤ 2) (ho : ∀ s q, p = s :: q → s ∈ zt_ss (K q) ∧ s % 9 ≠ 0)
    (hX : ∀ s q, q ≠ p → s :: q ≠ p → s ∈ zt_ss (K q) → X (s :: q) → X' (s :: q) ∨ H (s :: q) = true ∨ K (s :: q) ≠ [])
    (hE : ∀ q, q ≠ p → E q → E' q)
    (l1 : (zt_ss (A ++ (b, es') :: B)).Pairwise (· < ·)) (l2 : ∀ n, n ∈ A ++ (b, es') :: B → n.2 ≠ [] ∨ E' p)
    (l3 : ∀ s, s ∈ zt_ss (A ++ (b, es') :: B) → 9 ≤ s ∧ s ≤ 80 ∧ (X' (s :: p) ∨ H (s :: p) = true ∨ K (s :: p) ≠ []) ∧ (K (s :: p) ≠ [] → s % 9 ≠ 0))
    (l4 : ∀ s, s ∉ zt_ss (A ++ (b, es') :: B) → K (s :: p) = [] ∧ H (s :: p) = false)
    (o1 : zt_ord (a1' b) (es'.map Prod.fst)) (o2 : ∀ x, x ≠ b → a1' x = a1 x)
    (m2 : ∀ c s, (c, s) ∈ es' → a3' (4 * b + c) = nI s ∧ a5' (4 * b + c) = zt_b (H (s :: p)) ∧ a6' (4 * b + c) = zt_hd (-1) (K (s :: p)))
    (m4 : ∀ x c, x ≠ b → c < 4 → a3' (4 * x + c) = a3 (4 * x + c) ∧ a5' (4 * x + c) = a5 (4 * x + c) ∧ a6' (4 * x + c) = a6 (4 * x + c)) :
    zt_T X' E' (zt_up K p (A ++ (b, es') :: B)) H ft a1' a2 a3' a5' a6' := by
  have hT := h
  obtain ⟨⟨g1, g2, g3, g4, g5, g6, g7, g8⟩, w1, w2, w3⟩ := h
  have ns := zt_ns_same A B b es' es
  have gp := g7 p
  rw [hK] at gp
  obtain ⟨nA, nB⟩ := zt_ns_ne gp
  have bp : b ∈ zt_ns (K p) := by
    rw [hK]
    simp [zt_ns]
  have wp := w2 p
  rw [hK, zt_ch_app] at wp
  obtain ⟨wA, wb1, wb2, wb3, wB⟩ := wp
  have nq : ∀ q n, q ≠ p → n ∈ K q → n.1 ≠ b := by
    intro q n hq hn e
    exact hq (g8 q p b (zt_ns_mem.mpr ⟨n, hn, e⟩) bp)
  refine zt_upT hT hp (fun s q e => ⟨(ho s q e).1, fun _ => (ho s q e).2, Or.inr (Or.inr (by simp))⟩) hX hE l1 l2 l3 l4 (by rw [ns]; exact gp) ?_ ?_ ?_ ?_ ?_ ?_
  · intro q x hq hx hx2
    rw [ns, ← hK] at hx
    exact hq (g8 q p x hx2 hx)
  · by_cases e : p = []
    · rw [if_pos e, zt_hd_same _ A B b es' es, ← hK, e]
      exact w1
    · rw [if_neg e]
  · rw [zt_ch_app]
    refine ⟨zt_ch_fr (fun x hx => ?_) wA, wb1, o1, wb3, zt_ch_fr (fun x hx => ?_) wB⟩
    · obtain ⟨n, hn, rfl⟩ := zt_ns_mem.mp hx
      exact ⟨o2 _ (nA n hn), rfl⟩
    · obtain ⟨n, hn, rfl⟩ := zt_ns_mem.mp hx
      exact ⟨o2 _ (nB n hn), rfl⟩
  · intro n c s hn hc
    have other : n ∈ K p → n.1 ≠ b → a3' (4 * n.1 + c) = nI s ∧ a5' (4 * n.1 + c) = zt_b (H (s :: p)) ∧ a6' (4 * n.1 + c) = zt_hd (-1) (K (s :: p)) := by
      intro hn' hne
      obtain ⟨_, c4⟩ := zt_c4 hT.2 hn' hc
      obtain ⟨e1, e2, e3⟩ := m4 n.1 c hne c4
      rw [e1, e2, e3]
      exact w3 p n c s hn' hc
    rcases List.mem_append.mp hn with k | k
    · exact other (by rw [hK]; simp [k]) (nA n k)
    · rcases List.mem_cons.mp k with k | k
      · subst k
        exact m2 c s hc
      · exact other (by rw [hK]; simp [k]) (nB n k)
  · intro q n hq hn
    exact ⟨o2 _ (nq q n hq hn), rfl⟩
  · intro q n c s hq hn hc
    obtain ⟨_, c4⟩ := zt_c4 hT.2 hn hc
    obtain ⟨e1, e2, e3⟩ := m4 n.1 c (nq q n hq hn) c4
    refine ⟨e1, e2, ?_⟩
    rw [e3]
    by_cases e : s :: q = p
    · rw [if_pos e, (w3 q n c s hn hc).2.2, e, hK]
      exact zt_hd_same _ A B b es es'
    · rw [if_neg e]
section
variable {ft fc fn fl fu : Int32} {a1 a2 a3 a4 a5 a6 a7 a8 a9 a10 a11 a12 : Nat → Int32}
/-- a slice goes into a node that has room -/
theorem zt_ins28 {post : Int32 → St1 → Prop} {X E : List Nat → Prop} {K : List Nat → zt_Ch} {H : List Nat → Bool} {p : List Nat} {A B : zt_Ch} {b s : Nat} {es : List (Nat × Nat)} (h : zt_T X E K H ft a1 a2 a3 a5 a6)
    (hK : K p = A ++ (b, es) :: B) (hl : es.length < 4) (hA : ∀ t, t ∈ zt_ss A → t < s) (hB : ∀ t, t ∈ zt_ss B → s < t) (hs : s ∉ zt_ss (K p)) (s1 : 9 ≤ s) (s2 : s ≤ 80) (hp : p.length ≤ 2) (ho : ∀ s q, p = s :: q → s ∈ zt_ss (K q) ∧ s % 9 ≠ 0)
    (hX : ∀ q, X q → q = p) (hE : ∀ q, E q → q = p) (hE2 : ∀ n, n ∈ A ++ B → n.2 ≠ [])
    (hp' : ∀ es' e a1' a3' a4' a5' a6', zt_T (fun q => q = s :: p) zt_no (zt_up K p (A ++ (b, es') :: B)) H ft a1' a2 a3' a5' a6' → zt_at (zt_up K p (A ++ (b, es') :: B)) (s :: p) e → post (nI e) (ft, fc, fn, fl, fu, a1', a2, a3', a4', a5', a6', a7, a8, a9, a10, a11, a12)) :
    wX_insert_28 post (nI s) (nI b) ft fc fn fl fu a1 a2 a3 a4 a5 a6 a7 a8 a9 a10 a11 a12 := by
  have hT := h
  obtain ⟨⟨g1, g2, g3, g4, g5, g6, g7, g8⟩, w1, w2, w3⟩ := h
  have hb : (b, es) ∈ K p := by rw [hK]; simp
  obtain ⟨b1, b2⟩ : b < 122 ∧ zt_ord (a1 b) (es.map Prod.fst) := zt_ch_mem (w2 p) hb
  have hsn : (zt_ss (K p)).Pairwise (· < ·) := g1 p
  rw [hK, zt_ss_app, zt_ss_cons] at hsn hs
  have hse : (es.map Prod.snd).Pairwise (· < ·) := (List.pairwise_append.mp (List.pairwise_append.mp hsn).2.1).1
  unfold wX_insert_28
  refine zt_lesserIn (es := es) (by omega) b1 b2 (fun c t hct => ⟨(w3 p (b, es) c t hb hct).1, ?_⟩) hse ?_
  · have := (g3 p t (zt_ss_mem.mpr ⟨_, c, hb, hct⟩)).2.1
    omega
  intro e1 e2 ee q1 q2
  have q2' : ∀ x, x ∈ e2 → s < x.2 := by
    intro x hx
    have k1 := q2 x hx
    have k2 : s ≠ x.2 := by
      intro k
      apply hs
      refine List.mem_append.mpr (Or.inr (List.mem_append.mpr (Or.inl (List.mem_map.mpr ⟨x, ?_, k.symm⟩))))
      show x ∈ es
      rw [ee]
      exact List.mem_append.mpr (Or.inr hx)
    omega
  refine zt_sizeN b1 b2 ⟨pk_in b 122 b1, ?_⟩
  obtain ⟨c, c1, c2, c3, c4⟩ := zt_ord_i b2 (by rw [List.length_map]; exact hl)
  rw [nI_clamp (by omega : b < 2 ^ 31)]
  refine nm_r c3 ⟨pk_in b 122 b1, nm_e (nm_e (nm_e (nm_e (nm_e ⟨pk_in b 122 b1, nm_e (nm_r (e' := nI (4 * b + c)) (by rw [show (4 : Int32) = nI 4 from rfl, pk_mul, nI_add]) ⟨pk_in (4 * b + c) 488 (by omega), nm_e ⟨pk_in (4 * b + c) 488 (by omega), nm_e ⟨pk_in (4 * b + c) 488 (by omega), nm_e ⟨pk_in (4 * b + c) 488 (by omega), nm_e ?_⟩⟩⟩⟩)⟩))))⟩
  rw [nI_clamp (by omega : 4 * b + c < 2 ^ 31)]
  have hle : e1.length ≤ (es.map Prod.fst).length := by
    rw [List.length_map, ee, List.length_append]
    omega
  have ho' := c4 e1.length hle
  have etake : (es.map Prod.fst).take e1.length ++ c :: (es.map Prod.fst).drop e1.length = (e1 ++ (c, s) :: e2).map Prod.fst := by
    rw [ee, List.map_append, List.take_left' (by simp), List.drop_left' (by simp)]
    simp
  rw [etake] at ho'
  have ess : zt_ss (A ++ (b, e1 ++ (c, s) :: e2) :: B) = (zt_ss A ++ e1.map Prod.snd) ++ s :: (e2.map Prod.snd ++ zt_ss B) := by
    rw [zt_ss_app, zt_ss_cons]
    simp
  have ess0 : zt_ss (K p) = (zt_ss A ++ e1.map Prod.snd) ++ (e2.map Prod.snd ++ zt_ss B) := by
    rw [hK, zt_ss_app, zt_ss_cons, ee]
    simp
  have hmem : ∀ t, t ∈ zt_ss (A ++ (b, e1 ++ (c, s) :: e2) :: B) ↔ t = s ∨ t ∈ zt_ss (K p) := by
    intro t
    rw [ess, ess0]
    simp only [List.mem_append, List.mem_cons]
    constructor
    · rintro ((k | k) | k | k | k)
      · exact Or.inr (Or.inl (Or.inl k))
      · exact Or.inr (Or.inl (Or.inr k))
      · exact Or.inl k
      · exact Or.inr (Or.inr (Or.inl k))
      · exact Or.inr (Or.inr (Or.inr k))
    · rintro (k | (k | k) | k | k)
      · exact Or.inr (Or.inl k)
      · exact Or.inl (Or.inl k)
      · exact Or.inl (Or.inr k)
      · exact Or.inr (Or.inr (Or.inl k))
      · exact Or.inr (Or.inr (Or.inr k))
  have hsK : s ∉ zt_ss (K p) := by
    rw [hK, zt_ss_app, zt_ss_cons]
    exact hs
  refine hp' (e1 ++ (c, s) :: e2) (4 * b + c) _ _ _ _ _ (zt_nodeT hT hK hp ho ?_ ?_ ?_ ?_ ?_ ?_ ?_ ?_ ?_ ?_) ?_
  · intro t q hq hq2 _ k
    exact absurd (hX _ k) hq2
  · intro q hq k
    exact absurd (hE _ k) hq
  · rw [ess]
    have := g1 p
    rw [ess0] at this
    refine zt_pw_ins this (fun t ht => ?_) (fun t ht => ?_)
    · rcases List.mem_append.mp ht with k | k
      · exact hA t k
      · obtain ⟨x, hx, rfl⟩ := List.mem_map.mp k
        exact q1 x hx
    · rcases List.mem_append.mp ht with k | k
      · obtain ⟨x, hx, rfl⟩ := List.mem_map.mp k
        exact q2' x hx
      · exact hB t k
  · intro n hn
    rcases List.mem_append.mp hn with k | k
    · exact Or.inl (hE2 n (by simp [k]))
    · rcases List.mem_cons.mp k with k | k
      · left
        rw [k]
        simp
      · exact Or.inl (hE2 n (by simp [k]))
  · intro t ht
    rcases (hmem t).mp ht with k | k
    · rw [k]
      refine ⟨s1, s2, Or.inl rfl, fun z => ?_⟩
      exact absurd (g4 p s hsK).1 z
    · obtain ⟨k1, k2, k3, k4⟩ := g3 p t k
      refine ⟨k1, k2, ?_, k4⟩
      rcases k3 with k3 | k3
      · exact absurd (hX _ k3) (zt_cne t p)
      · exact Or.inr k3
  · intro t ht
    exact g4 p t (fun k => ht ((hmem t).mpr (Or.inr k)))
  · rw [pk_us]
    exact ho'
  · intro x hx
    rw [pk_un hx]
  · intro c' t ht
    have hcase : (c' = c ∧ t = s) ∨ (c', t) ∈ es := by
      rw [ee]
      rcases List.mem_append.mp ht with k | k
      · exact Or.inr (List.mem_append.mpr (Or.inl k))
      · rcases List.mem_cons.mp k with k | k
        · injection k with k1 k2
          exact Or.inl ⟨k1, k2⟩
        · exact Or.inr (List.mem_append.mpr (Or.inr k))
    rcases hcase with ⟨k1, k2⟩ | k
    · rw [k1, k2, pk_us, pk_us, pk_us]
      obtain ⟨j1, j2⟩ := g4 p s hsK
      rw [j1, j2]
      exact ⟨rfl, rfl, rfl⟩
    · have hne : 4 * b + c' ≠ 4 * b + c := by
        intro e
        have e' : c' = c := by omega
        rw [e'] at k
        exact c2 (List.mem_map.mpr ⟨_, k, rfl⟩)
      rw [pk_un hne, pk_un hne, pk_un hne]
      exact w3 p _ c' t hb k
  · intro x c' hx hc'
    have hne : 4 * x + c' ≠ 4 * b + c := by omega
    rw [pk_un hne, pk_un hne, pk_un hne]
    exact ⟨rfl, rfl, rfl⟩
  · refine ⟨s, p, (b, e1 ++ (c, s) :: e2), c, rfl, ?_, by simp, rfl⟩
    rw [zt_up_s]
    simp
end
end
section
theorem zt_nar (v : Bool) : vp_nar .boolean (zt_b v) = zt_b v := by
  cases v <;> decide
/-- a full node is split -/
theorem zt_splitT {X E : List Nat → Prop} {K : List Nat → zt_Ch} {H : List Nat → Bool} {ft : Int32} {a1 a2 a3 a5 a6 a1' a2' a3' a5' a6' : Nat → Int32} {p : List Nat} {A B : zt_Ch} {b f c0 s0 c1 s1 c2 s2 c3 s3 : Nat} (h : zt_T X E K H ft a1 a2 a3 a5 a6)
    (hK : K p = A ++ (b, [(c0, s0), (c1, s1), (c2, s2), (c3, s3)]) :: B) (hp : p.length ≤ 2) (ho : ∀ s q, p = s :: q → s ∈ zt_ss (K q) ∧ s % 9 ≠ 0) (hf : f < 122) (hfK : ∀ q, f ∉ zt_ns (K q))
    (o1 : zt_ord (a1' b) [c0, c1]) (o2 : zt_ord (a1' f) [0, 1]) (o3 : ∀ x, x ≠ b → x ≠ f → a1' x = a1 x)
    (n1 : a2' b = nI f) (n2 : a2' f = a2 b) (n3 : ∀ x, x ≠ b → x ≠ f → a2' x = a2 x)
    (v1 : a3' (4 * f + 0) = a3 (4 * b + c2) ∧ a5' (4 * f + 0) = a5 (4 * b + c2) ∧ a6' (4 * f + 0) = a6 (4 * b + c2))
    (v2 : a3' (4 * f + 1) = a3 (4 * b + c3) ∧ a5' (4 * f + 1) = a5 (4 * b + c3) ∧ a6' (4 * f + 1) = a6 (4 * b + c3))
    (v3 : ∀ x c, x ≠ f → c < 4 → a3' (4 * x + c) = a3 (4 * x + c) ∧ a5' (4 * x + c) = a5 (4 * x + c) ∧ a6' (4 * x + c) = a6 (4 * x + c)) :
    zt_T X E (zt_up K p (A ++ (b, [(c0, s0), (c1, s1)]) :: (f, [(0, s2), (1, s3)]) :: B)) H ft a1' a2' a3' a5' a6' := by
  have hT := h
  obtain ⟨⟨g1, g2, g3, g4, g5, g6, g7, g8⟩, w1, w2, w3⟩ := h
  have gp := g7 p
  rw [hK] at gp
  obtain ⟨nA, nB⟩ := zt_ns_ne gp
  have bm : (b, [(c0, s0), (c1, s1), (c2, s2), (c3, s3)]) ∈ K p := by rw [hK]; simp
  have bp : b ∈ zt_ns (K p) := zt_ns_mem.mpr ⟨_, bm, rfl⟩
  have wp := w2 p
  rw [hK, zt_ch_app] at wp
  obtain ⟨wA, wb1, wb2, wb3, wB⟩ := wp
  have nf : ∀ q n, n ∈ K q → n.1 ≠ f := by
    intro q n hn e
    exact hfK q (zt_ns_mem.mpr ⟨n, hn, e⟩)
  have nq : ∀ q n, q ≠ p → n ∈ K q → n.1 ≠ b := by
    intro q n hq hn e
    exact hq (g8 q p b (zt_ns_mem.mpr ⟨n, hn, e⟩) bp)
  have ess : zt_ss (A ++ (b, [(c0, s0), (c1, s1)]) :: (f, [(0, s2), (1, s3)]) :: B) = zt_ss (K p) := by
    rw [hK]
    simp [zt_ss]
  have bf : b ≠ f := by
    intro e
    rw [e] at bp
    exact hfK p bp
  have ins : ∀ n, n ∈ A ∨ n ∈ B → n ∈ K p := by
    intro n hn
    rw [hK]
    rcases hn with k | k <;> simp [k]
  refine zt_upT hT hp (fun s q e => ⟨(ho s q e).1, fun _ => (ho s q e).2, Or.inr (Or.inr (by simp))⟩) (fun s q _ _ hs k => Or.inl k) (fun q _ k => k) (by rw [ess]; exact g1 p) ?_ (by rw [ess]; exact g3 p) (by rw [ess]; exact g4 p) ?_ ?_ ?_ ?_ ?_ ?_ ?_
  · intro n hn
    rcases List.mem_append.mp hn with k | k
    · exact g2 p n (ins n (Or.inl k))
    · rcases List.mem_cons.mp k with k | k
      · left
        rw [k]
        simp
      · rcases List.mem_cons.mp k with k | k
        · left
          rw [k]
          simp
        · exact g2 p n (ins n (Or.inr k))
  · have hfp := hfK p
    rw [hK, zt_ns_app, zt_ns_cons] at hfp
    rw [zt_ns_app, zt_ns_cons] at gp
    rw [zt_ns_app, zt_ns_cons, zt_ns_cons]
    obtain ⟨d1, d2, d3⟩ := List.nodup_append.mp gp
    obtain ⟨d4, d5⟩ := List.nodup_cons.mp d2
    simp only [List.mem_append, List.mem_cons, not_or] at hfp
    refine List.nodup_append.mpr ⟨d1, List.nodup_cons.mpr ⟨?_, List.nodup_cons.mpr ⟨hfp.2.2, d5⟩⟩, fun x hx y hy => ?_⟩
    · intro k
      rcases List.mem_cons.mp k with k | k
      · exact bf k
      · exact d4 k
    · rcases List.mem_cons.mp hy with k | k
      · rw [k]
        exact d3 x hx b (by simp)
      · rcases List.mem_cons.mp k with k | k
        · rw [k]
          intro e
          rw [e] at hx
          exact hfp.1 hx
        · exact d3 x hx y (List.mem_cons_of_mem _ k)
  · intro q x hq hx hx2
    have : x ∈ zt_ns (K p) ∨ x = f := by
      rw [zt_ns_app, zt_ns_cons, zt_ns_cons] at hx
      rw [hK, zt_ns_app, zt_ns_cons]
      simp only [List.mem_append, List.mem_cons] at hx ⊢
      rcases hx with k | k | k | k
      · exact Or.inl (Or.inl k)
      · exact Or.inl (Or.inr (Or.inl k))
      · exact Or.inr k
      · exact Or.inl (Or.inr (Or.inr k))
    rcases this with k | k
    · exact hq (g8 q p x hx2 k)
    · rw [k] at hx2
      exact hfK q hx2
  · have eh : zt_hd (-1) (A ++ (b, [(c0, s0), (c1, s1)]) :: (f, [(0, s2), (1, s3)]) :: B) = zt_hd (-1) (K p) := by
      rw [hK]
      cases A <;> rfl
    by_cases e : p = []
    · rw [if_pos e, eh, e]
      exact w1
    · rw [if_neg e]
  · rw [zt_ch_app]
    refine ⟨zt_ch_fr (fun x hx => ?_) wA, wb1, o1, n1, hf, o2, by rw [n2]; exact wb3, zt_ch_fr (fun x hx => ?_) wB⟩
    · obtain ⟨n, hn, rfl⟩ := zt_ns_mem.mp hx
      have k1 := nA n hn
      have k2 := nf p n (ins n (Or.inl hn))
      exact ⟨o3 _ k1 k2, n3 _ k1 k2⟩
    · obtain ⟨n, hn, rfl⟩ := zt_ns_mem.mp hx
      have k1 := nB n hn
      have k2 := nf p n (ins n (Or.inr hn))
      exact ⟨o3 _ k1 k2, n3 _ k1 k2⟩
  · intro n c s hn hc
    have other : ∀ m, m ∈ K p → m.1 = n.1 → (c, s) ∈ m.2 → a3' (4 * n.1 + c) = nI s ∧ a5' (4 * n.1 + c) = zt_b (H (s :: p)) ∧ a6' (4 * n.1 + c) = zt_hd (-1) (K (s :: p)) := by
      intro m hm em hcm
      obtain ⟨_, c4⟩ := zt_c4 hT.2 hm hcm
      obtain ⟨e1, e2, e3⟩ := v3 m.1 c (nf p m hm) c4
      rw [← em, e1, e2, e3]
      exact w3 p m c s hm hcm
    rcases List.mem_append.mp hn with k | k
    · exact other n (ins n (Or.inl k)) rfl hc
    · rcases List.mem_cons.mp k with k | k
      · refine other _ bm (by rw [k]) ?_
        rw [k] at hc
        simp only [List.mem_cons, List.not_mem_nil, or_false] at hc ⊢
        rcases hc with hc | hc
        · exact Or.inl hc
        · exact Or.inr (Or.inl hc)
      · rcases List.mem_cons.mp k with k | k
        · rw [k] at hc ⊢
          simp only [List.mem_cons, List.not_mem_nil, or_false, Prod.mk.injEq] at hc
          rcases hc with ⟨rfl, rfl⟩ | ⟨rfl, rfl⟩
          · show a3' (4 * f + 0) = _ ∧ a5' (4 * f + 0) = _ ∧ a6' (4 * f + 0) = _
            rw [v1.1, v1.2.1, v1.2.2]
            exact w3 p _ c2 _ bm (by simp)
          · show a3' (4 * f + 1) = _ ∧ a5' (4 * f + 1) = _ ∧ a6' (4 * f + 1) = _
            rw [v2.1, v2.2.1, v2.2.2]
            exact w3 p _ c3 _ bm (by simp)
        · exact other n (ins n (Or.inr k)) rfl hc
  · intro q n hq hn
    exact ⟨o3 _ (nq q n hq hn) (nf q n hn), n3 _ (nq q n hq hn) (nf q n hn)⟩
  · intro q n c s hq hn hc
    obtain ⟨_, c4⟩ := zt_c4 hT.2 hn hc
    obtain ⟨e1, e2, e3⟩ := v3 n.1 c (nf q n hn) c4
    refine ⟨e1, e2, ?_⟩
    rw [e3]
    by_cases e : s :: q = p
    · rw [if_pos e, (w3 q n c s hn hc).2.2, e, hK]
      cases A <;> rfl
    · rw [if_neg e]
section
variable {ft fc fn fl fu : Int32} {a1 a2 a3 a4 a5 a6 a7 a8 a9 a10 a11 a12 : Nat → Int32}
theorem zt_split {post : St1 → Prop} {X E : List Nat → Prop} {K : List Nat → zt_Ch} {H : List Nat → Bool} {fr p : List Nat} {A B : zt_Ch} {b c0 s0 c1 s1 c2 s2 c3 s3 : Nat} (h : zt_T X E K H ft a1 a2 a3 a5 a6) (hR : zt_R K fr fc a7) (hfr : fr ≠ [])
    (hK : K p = A ++ (b, [(c0, s0), (c1, s1), (c2, s2), (c3, s3)]) :: B) (hp : p.length ≤ 2) (ho : ∀ s q, p = s :: q → s ∈ zt_ss (K q) ∧ s % 9 ≠ 0)
    (hq : ∀ f0 f a1' a2' a3' a4' a5' a6', fr = f0 ++ [f] → zt_T X E (zt_up K p (A ++ (b, [(c0, s0), (c1, s1)]) :: (f, [(0, s2), (1, s3)]) :: B)) H ft a1' a2' a3' a5' a6' → post (ft, nI f0.length, fn, fl, fu, a1', a2', a3', a4', a5', a6', a7, a8, a9, a10, a11, a12)) :
    wpX_split post (ft, fc, fn, fl, fu, a1, a2, a3, a4, a5, a6, a7, a8, a9, a10, a11, a12) (nI b) := by
  unfold wpX_split
  refine zt_takeNode hR hfr ?_
  intro f0 f ef hf
  have hfK : ∀ q, f ∉ zt_ns (K q) := ((hR.2.2.2 f).mp (by rw [ef]; simp)).2
  have hM := h.2
  have bm : (b, [(c0, s0), (c1, s1), (c2, s2), (c3, s3)]) ∈ K p := by rw [hK]; simp
  obtain ⟨b1, b2⟩ : b < 122 ∧ zt_ord (a1 b) [c0, c1, c2, c3] := zt_ch_mem (hM.2.1 p) bm
  have bf : b ≠ f := by
    intro e
    exact hfK p (zt_ns_mem.mpr ⟨_, bm, e⟩)
  have d2 := (zt_c4 hM bm (c := c2) (s := s2) (by simp)).2
  have d3 := (zt_c4 hM bm (c := c3) (s := s3) (by simp)).2
  obtain ⟨x1, x2, x3⟩ := hM.2.2 p _ c2 s2 bm (by simp)
  obtain ⟨y1, y2, y3⟩ := hM.2.2 p _ c3 s3 bm (by simp)
  dsimp only at x1 x2 x3 y1 y2 y3
  refine ⟨pk_in b 122 b1, pk_in f 122 hf, ?_⟩
  rw [nI_clamp (by omega : b < 2 ^ 31), nI_clamp (by omega : f < 2 ^ 31)]
  refine nm_e ⟨pk_in b 122 b1, nm_e ⟨3, ?_⟩⟩
  have z1 : upd a1 f 205056 b = a1 b := pk_un bf
  have hq0 := hq f0 f
  refine br_f (by decide) ?_
  rw [show (2 : Int32) + 0 = nI 2 by decide]
  refine zt_entN (cs := [c0, c1, c2, c3]) b1 (by rw [z1]; exact b2) (by simp) ?_
  rw [show [c0, c1, c2, c3].getD 2 0 = c2 from rfl]
  have f40 : (4 : Int32) * nI f + 0 = nI (4 * f + 0) := by rw [show (4 : Int32) = nI 4 from rfl, show (0 : Int32) = nI 0 from rfl, pk_mul, nI_add]
  have f41 : (4 : Int32) * nI f + (0 + 1) = nI (4 * f + 1) := by rw [show (4 : Int32) = nI 4 from rfl, show (0 + 1 : Int32) = nI 1 by decide, pk_mul, nI_add]
  have i2 : vp_in (nI (4 * b + c2)) 488 := pk_in (4 * b + c2) 488 (by omega)
  have i3 : vp_in (nI (4 * b + c3)) 488 := pk_in (4 * b + c3) 488 (by omega)
  have j0 : vp_in (nI (4 * f + 0)) 488 := pk_in (4 * f + 0) 488 (by omega)
  have j1 : vp_in (nI (4 * f + 1)) 488 := pk_in (4 * f + 1) 488 (by omega)
  refine nm_r f40 ⟨i2, j0, nm_e ⟨i2, j0, nm_e ⟨i2, j0, nm_e ⟨i2, j0, nm_e (nm_e ?_)⟩⟩⟩⟩
  refine br_f (by decide) ?_
  rw [show (2 : Int32) + (0 + 1) = nI 3 by decide]
  refine zt_entN (cs := [c0, c1, c2, c3]) b1 (by rw [z1]; exact b2) (by simp) ?_
  rw [show [c0, c1, c2, c3].getD 3 0 = c3 from rfl]
  refine nm_r f41 ⟨i3, j1, nm_e ⟨i3, j1, nm_e ⟨i3, j1, nm_e ⟨i3, j1, nm_e (nm_e ?_)⟩⟩⟩⟩
  refine br_t (by decide) ⟨pk_in f 122 hf, nm_e ⟨pk_in b 122 b1, pk_in b 122 b1, nm_e ?_⟩⟩
  rw [nI_clamp (by omega : b < 2 ^ 31), nI_clamp (by omega : f < 2 ^ 31), nI_clamp (by omega : 4 * b + c2 < 2 ^ 31), nI_clamp (by omega : 4 * b + c3 < 2 ^ 31), nI_clamp (by omega : 4 * f + 0 < 2 ^ 31), nI_clamp (by omega : 4 * f + 1 < 2 ^ 31)]
  have ne1 : 4 * b + c3 ≠ 4 * f + 0 := by omega
  have ne2 : 4 * f + 0 ≠ 4 * f + 1 := by omega
  refine hq0 _ _ _ _ _ _ ef (zt_splitT h hK hp ho hf hfK ?_ ?_ ?_ ?_ ?_ ?_ ?_ ?_ ?_)
  · rw [pk_us, pk_un bf, z1]
    exact zt_ord_s b2 rfl
  · rw [pk_un (Ne.symm bf), pk_us]
    exact zt_ord_2
  · intro x hx hx2
    rw [pk_un hx, pk_un hx2, pk_un hx2]
  · rw [pk_us]
  · rw [pk_un (Ne.symm bf), pk_us, pk_un bf]
  · intro x hx hx2
    rw [pk_un hx, pk_un hx2, pk_un hx2]
  · rw [pk_un ne2, pk_un ne2, pk_un ne2, pk_us, pk_us, pk_us, x2, zt_nar]
    exact ⟨rfl, rfl, rfl⟩
  · rw [pk_us, pk_us, pk_us, pk_un ne1, pk_un ne1, pk_un ne1, y2, zt_nar]
    exact ⟨rfl, rfl, rfl⟩
  · intro x c hx hc
    have k0 : 4 * x + c ≠ 4 * f + 0 := by omega
    have k1 : 4 * x + c ≠ 4 * f + 1 := by omega
    rw [pk_un k1, pk_un k1, pk_un k1, pk_un k0, pk_un k0, pk_un k0]
    exact ⟨rfl, rfl, rfl⟩
end
end
section
theorem zt_cm_suf {a1 a2 a3 : Nat → Int32} {A B : zt_Ch} (h : zt_cm a1 a2 a3 (A ++ B)) : zt_cm a1 a2 a3 B := by
  obtain ⟨h1, h2, h3, h4⟩ := h
  refine ⟨(zt_ch_app.mp h1).2, fun n c s hn hc => h2 n c s (List.mem_append.mpr (Or.inr hn)) hc, ?_, fun n hn => h4 n ?_⟩
  · rw [zt_ss_app] at h3
    exact (List.pairwise_append.mp h3).2.1
  · cases A with
    | nil => exact hn
    | cons a A => exact List.mem_append.mpr (Or.inr (List.mem_of_mem_tail hn))
theorem zt_up_up {K : List Nat → zt_Ch} {p : List Nat} {L M : zt_Ch} : zt_up (zt_up K p L) p M = zt_up K p M := by
  funext q
  by_cases e : q = p
  · rw [e, zt_up_s, zt_up_s]
  · rw [zt_up_n e, zt_up_n e, zt_up_n e]
theorem zt_four {α : Type} {l : List α} (h : l.length = 4) : ∃ a b c d, l = [a, b, c, d] := by
  match l, h with
  | [a, b, c, d], _ => exact ⟨a, b, c, d, rfl⟩
section
variable {ft fc fn fl fu : Int32} {a1 a2 a3 a4 a5 a6 a7 a8 a9 a10 a11 a12 : Nat → Int32}
theorem zt_insert {post : Int32 → St1 → Prop} {X E : List Nat → Prop} {K : List Nat → zt_Ch} {H : List Nat → Bool} {fr p : List Nat} {s : Nat} (h : zt_T X E K H ft a1 a2 a3 a5 a6) (hR : zt_R K fr fc a7) (hfr : fr ≠ [] ∨ ∃ b, K p = [(b, [])])
    (hne : K p ≠ []) (hs : s ∉ zt_ss (K p)) (s1 : 9 ≤ s) (s2 : s ≤ 80) (hp : p.length ≤ 2) (ho : ∀ s q, p = s :: q → s ∈ zt_ss (K q) ∧ s % 9 ≠ 0)
    (hX : ∀ q, X q → q = p) (hE : ∀ q, E q → q = p) (hE2 : (∀ n, n ∈ K p → n.2 ≠ []) ∨ ∃ b, K p = [(b, [])])
    (hq : ∀ L fr' e fc' a1' a2' a3' a4' a5' a6', zt_T (fun q => q = s :: p) zt_no (zt_up K p L) H ft a1' a2' a3' a5' a6' → zt_R (zt_up K p L) fr' fc' a7 → fr.length ≤ fr'.length + 1 → ((∃ b, K p = [(b, [])]) → fr.length ≤ fr'.length) → zt_at (zt_up K p L) (s :: p) e → post (nI e) (ft, fc', fn, fl, fu, a1', a2', a3', a4', a5', a6', a7, a8, a9, a10, a11, a12)) :
    wpX_insert post (ft, fc, fn, fl, fu, a1, a2, a3, a4, a5, a6, a7, a8, a9, a10, a11, a12) (zt_hd (-1) (K p)) (nI s) := by
  unfold wpX_insert
  have cm0 : zt_cm a1 a2 a3 (K p) := by
    refine zt_T_cm (X := X) (E := fun q => (∃ b, K q = [(b, [])]) ) (H := H) (ft := ft) (a5 := a5) (a6 := a6) (zt_T_mono h (fun s q _ k => Or.inl k) (fun q k => ?_)) p ?_
    · have e := hE q k
      rcases hE2 with k | k
      · right
        rw [e]
        exact k
      · left
        rw [e]
        exact k
    · rcases hE2 with k | ⟨b, k⟩
      · left
        rintro ⟨b, e⟩
        exact k (b, []) (by rw [e]; simp) rfl
      · right
        rw [k]
        rfl
  refine zt_nodeFor (by omega) cm0 hne ?_
  rintro A ⟨b, es⟩ B e hA hB hAn
  have bm : (b, es) ∈ K p := by rw [e]; simp
  obtain ⟨b1, b2⟩ : b < 122 ∧ zt_ord (a1 b) (es.map Prod.fst) := zt_ch_mem (h.2.2.1 p) bm
  have hl4 := (zt_ord_len b2).2.1
  rw [List.length_map] at hl4
  refine zt_sizeN b1 b2 ?_
  rw [List.length_map]
  refine pk_eq es.length 4 (fun z => ?_) (fun z => ?_)
  · obtain ⟨⟨c0, t0⟩, ⟨c1, t1⟩, ⟨c2, t2⟩, ⟨c3, t3⟩, rfl⟩ := zt_four z
    have notf : ¬ ∃ b, K p = [(b, [])] := by
      rintro ⟨b', k⟩
      rw [k] at bm
      simp at bm
    have hne2 : ∀ n, n ∈ K p → n.2 ≠ [] := by
      rcases hE2 with k | k
      · exact k
      · exact absurd k notf
    have hfr2 : fr ≠ [] := by
      rcases hfr with k | k
      · exact k
      · exact absurd k notf
    refine zt_split h hR hfr2 e hp ho ?_
    intro f0 f a1' a2' a3' a4' a5' a6' ef hT'
    have eK1 : zt_up K p (A ++ (b, [(c0, t0), (c1, t1)]) :: (f, [(0, t2), (1, t3)]) :: B) p = A ++ (b, [(c0, t0), (c1, t1)]) :: (f, [(0, t2), (1, t3)]) :: B := zt_up_s
    have ess : zt_ss (A ++ (b, [(c0, t0), (c1, t1)]) :: (f, [(0, t2), (1, t3)]) :: B) = zt_ss (K p) := by
      rw [e]
      simp [zt_ss]
    have nemp : ∀ n, n ∈ A ++ (b, [(c0, t0), (c1, t1)]) :: (f, [(0, t2), (1, t3)]) :: B → n.2 ≠ [] := by
      intro n hn
      simp only [List.mem_append, List.mem_cons] at hn
      rcases hn with k | k | k | k
      · exact hne2 n (by rw [e]; simp [k])
      · rw [k]; simp
      · rw [k]; simp
      · exact hne2 n (by rw [e]; simp [k])
    have cm1 : zt_cm a1' a2' a3' (A ++ (b, [(c0, t0), (c1, t1)]) :: (f, [(0, t2), (1, t3)]) :: B) := by
      have k := zt_T_cm (X := X) (E := zt_no) (K := zt_up K p (A ++ (b, [(c0, t0), (c1, t1)]) :: (f, [(0, t2), (1, t3)]) :: B)) (H := H) (ft := ft) (a5 := a5') (a6 := a6') (zt_T_mono hT' (fun s q _ k => Or.inl k) (fun q k => by
        right
        have e := hE q k
        rw [e, eK1]
        exact nemp)) p (Or.inl (fun k => k))
      rw [eK1] at k
      exact k
    dsimp only
    refine zt_nodeFor (L := (b, [(c0, t0), (c1, t1)]) :: (f, [(0, t2), (1, t3)]) :: B) (by omega) (zt_cm_suf cm1) (by simp) ?_
    rintro A2 ⟨b', es'⟩ B2 e2 hA2 hB2 hAn2
    have hlen : es'.length < 4 := by
      match A2, e2, hAn2 with
      | [], e2, _ =>
        simp only [List.nil_append, List.cons.injEq, Prod.mk.injEq] at e2
        rw [← e2.1.2]
        simp
      | [m], e2, _ =>
        simp only [List.cons_append, List.nil_append, List.cons.injEq, Prod.mk.injEq] at e2
        rw [← e2.2.1.2]
        simp
      | m :: m' :: A3, e2, hAn2 =>
        simp only [List.cons_append, List.cons.injEq] at e2
        obtain ⟨t, ht, hts⟩ := hAn2 (by simp)
        have : t ∈ zt_ss B := by
          rw [e2.2.2, zt_ss_app, zt_ss_cons]
          exact List.mem_append.mpr (Or.inr (List.mem_append.mpr (Or.inl ht)))
        have := hB t this
        omega
    have eK2 : zt_up K p (A ++ (b, [(c0, t0), (c1, t1)]) :: (f, [(0, t2), (1, t3)]) :: B) p = (A ++ A2) ++ (b', es') :: B2 := by
      rw [eK1, e2]
      simp
    refine zt_ins28 hT' eK2 hlen ?_ hB2 ?_ s1 s2 hp ?_ hX hE ?_ ?_
    · intro t ht
      rw [zt_ss_app] at ht
      rcases List.mem_append.mp ht with k | k
      · exact hA t k
      · exact hA2 t k
    · rw [eK1, ess]
      exact hs
    · intro s' q e'
      have : q ≠ p := by
        rw [e']
        exact (zt_cne s' q).symm
      rw [zt_up_n this]
      exact ho s' q e'
    · intro n hn
      apply nemp
      rw [e2]
      simp only [List.mem_append, List.mem_cons] at hn ⊢
      rcases hn with (k | k) | k
      · exact Or.inl k
      · exact Or.inr (Or.inl k)
      · exact Or.inr (Or.inr (Or.inr k))
    · intro es'' en a1'' a3'' a4'' a5'' a6'' hT2 hat
      rw [zt_up_up] at hT2 hat
      refine hq _ f0 en _ _ _ _ _ _ _ hT2 (zt_R_add (ef ▸ hR) ?_) (by rw [ef]; simp) (fun k => absurd k notf) hat
      intro x
      rw [zt_ns_same _ _ _ _ es', List.append_assoc, ← e2, e]
      simp only [zt_ns_app, zt_ns_cons, List.mem_append, List.mem_cons]
      constructor
      · rintro (k | k | k | k)
        · exact Or.inl (Or.inl k)
        · exact Or.inl (Or.inr (Or.inl k))
        · exact Or.inr k
        · exact Or.inl (Or.inr (Or.inr k))
      · rintro ((k | k | k) | k)
        · exact Or.inl k
        · exact Or.inr (Or.inl k)
        · exact Or.inr (Or.inr (Or.inr k))
        · exact Or.inr (Or.inr (Or.inl k))
  · refine zt_ins28 h e (by omega) hA hB hs s1 s2 hp ho hX hE ?_ ?_
    · intro n hn
      rcases hE2 with k | ⟨b', k⟩
      · apply k
        rw [e]
        simp only [List.mem_append, List.mem_cons] at hn ⊢
        rcases hn with k | k
        · exact Or.inl k
        · exact Or.inr (Or.inr k)
      · rw [k] at e
        cases A with
        | nil =>
          simp only [List.nil_append, List.cons.injEq] at e
          rw [← e.2] at hn
          cases hn
        | cons a A => simp at e
    · intro es' en a1' a3' a4' a5' a6' hT2 hat
      exact hq _ fr en _ _ _ _ _ _ _ hT2 (zt_R_same hR (by rw [e]; exact zt_ns_same _ _ _ _ _)) (by omega) (fun _ => Nat.le_refl _) hat
theorem zt_mp42 {post : Int32 → St1 → Prop} {J : Int32 → Int32 → Int32 → Int32 → Int32 → Int32 → Int32 → (Nat → Int32) → (Nat → Int32) → (Nat → Int32) → (Nat → Int32) → (Nat → Int32) → (Nat → Int32) → (Nat → Int32) → (Nat → Int32) → (Nat → Int32) → (Nat → Int32) → (Nat → Int32) → (Nat → Int32) → Prop}
    {K : List Nat → zt_Ch} {H : List Nat → Bool} {fr p : List Nat} {s i : Nat} {x1 x2 x3 : Int32} (h : zt_T (fun q => q = p) zt_no K H ft a1 a2 a3 a5 a6) (hR : zt_R K fr fc a7) (hfr : fr ≠ [])
    (s1 : 9 ≤ s) (s2 : s ≤ 80) (hp : p.length ≤ 2) (ho : ∀ s q, p = s :: q → s ∈ zt_ss (K q) ∧ s % 9 ≠ 0) (hown : zt_own K p x2)
    (hJ : ∀ K' fr' e ft' fc' a1' a2' a3' a4' a5' a6', zt_T (fun q => q = s :: p) zt_no K' H ft' a1' a2' a3' a5' a6' → zt_R K' fr' fc' a7 → fr.length ≤ fr'.length + 1 → zt_at K' (s :: p) e → J (nI e) (nI (i + 1)) ft' fc' fn fl fu a1' a2' a3' a4' a5' a6' a7 a8 a9 a10 a11 a12) :
    wX_makePath_42 post J x1 x2 x3 (nI i) (nI s) (zt_hd (-1) (K p)) ft fc fn fl fu a1 a2 a3 a4 a5 a6 a7 a8 a9 a10 a11 a12 := by
  unfold wX_makePath_42
  refine zt_entryFor (by omega) (zt_T_cm h p (Or.inl (fun k => k))) ?_ ?_
  · intro n c hn hc
    obtain ⟨q1, q2⟩ := zt_c4 h.2 hn hc
    refine br_f (zt_nm1 (by omega)) (nm_r (nI_1 i) ?_)
    refine hJ K fr _ ft fc a1 a2 a3 a4 a5 a6 (zt_T_mono h (fun t q ht k => ?_) (fun q k => absurd k (fun z => z))) hR (by omega) ⟨s, p, n, c, rfl, hn, hc, rfl⟩
    right; right
    rw [k]
    intro k2
    rw [k2] at hn
    cases hn
  · intro hs
    refine br_t rfl ?_
    by_cases hK : K p = []
    · have ez : zt_hd (-1) (K p) = -1 := by rw [hK]; rfl
      refine br_t ez ?_
      refine zt_takeNode hR hfr ?_
      intro f0 b ef hb
      have hbK : ∀ q, b ∉ zt_ns (K q) := ((hR.2.2.2 b).mp (by rw [ef]; simp)).2
      dsimp only
      refine zt_setHead h.1 (fun e he => (zt_at_m h he).1) hown ?_
      intro ft' a6' k1 k2 k3
      have hT1 := zt_fresh h hp ho hK hb hbK k1 k2 k3
      have eK1 : zt_up K p [(b, [])] p = [(b, [])] := zt_up_s
      have hR1 : zt_R (zt_up K p [(b, [])]) f0 (nI f0.length) a7 := by
        refine zt_R_add (ef ▸ hR) ?_
        intro x
        rw [hK]
        simp [zt_ns]
      dsimp only
      unfold wX_makePath_79
      have main := zt_insert (post := (fun r_10 u => match u with | (ft, fc, fn, fl, fu, a1, a2, a3, a4, a5, a6, a7, a8, a9, a10, a11, a12) => (∀ x4_52 : Int32, x4_52 = nI i + 1 → (J r_10 x4_52 ft fc fn fl fu a1 a2 a3 a4 a5 a6 a7 a8 a9 a10 a11 a12)))) (fn := fn) (fl := fl) (fu := fu) (a4 := a4) (a8 := a8) (a9 := a9) (a10 := a10) (a11 := a11) (a12 := a12) (p := p) (s := s) hT1 hR1 (Or.inr ⟨b, eK1⟩) (by rw [eK1]; simp) (by rw [eK1]; simp [zt_ss]) s1 s2 hp (fun s' q e' => by
          have : q ≠ p := by
            rw [e']
            exact (zt_cne s' q).symm
          rw [zt_up_n this]
          exact ho s' q e') (fun q k => k) (fun q k => k) (Or.inr ⟨b, eK1⟩) (fun L fr' e fc' a1' a2' a3' a4' a5' a6' t1 t2 t3 t4 t5 => by
          rw [zt_up_up] at t1 t2 t5
          refine nm_r (nI_1 i) ?_
          have t6 := t4 ⟨b, eK1⟩
          have : fr.length = f0.length + 1 := by rw [ef]; simp
          exact hJ _ fr' e ft' fc' a1' a2' a3' a4' a5' a6' t1 t2 (by omega) t5)
      rw [eK1] at main
      exact main
    · have ez : ¬ zt_hd (-1) (K p) = -1 := by
        obtain ⟨n, B, e⟩ := List.exists_cons_of_ne_nil hK
        have := (zt_ch_mem (h.2.2.1 p) (n := n) (by rw [e]; simp)).1
        rw [e]
        exact zt_nm1 (by omega)
      refine br_f ez ?_
      unfold wX_makePath_79
      refine zt_insert h hR (Or.inl hfr) hK hs s1 s2 hp ho (fun q k => k) (fun q k => absurd k (fun z => z)) (Or.inl (fun n hn => ?_)) ?_
      · rcases h.1.2.1 p n hn with k | k
        · exact k
        · exact absurd k (fun z => z)
      · intro L fr' e fc' a1' a2' a3' a4' a5' a6' t1 t2 t3 t4 t5
        exact nm_r (nI_1 i) (hJ _ fr' e ft fc' a1' a2' a3' a4' a5' a6' t1 t2 t3 t5)
theorem zt_mpL {post : Int32 → St1 → Prop} {H : List Nat → Bool} {w : Nat} (hw : zt_word w)
    (hq : ∀ K fr x ft fc a1 a2 a3 a4 a5 a6, zt_T (fun q => q = zt_pre w (zt_ly w)) zt_no K H ft a1 a2 a3 a5 a6 → zt_R K fr fc a7 → zt_own K (zt_pre w (zt_ly w)) x → post x (ft, fc, fn, fl, fu, a1, a2, a3, a4, a5, a6, a7, a8, a9, a10, a11, a12)) :
    ∀ d i, i + d = zt_ly w → ∀ K fr x2 ft fc a1 a2 a3 a4 a5 a6, zt_T (fun q => q = zt_pre w i) zt_no K H ft a1 a2 a3 a5 a6 → zt_R K fr fc a7 → d ≤ fr.length → (∀ s q, zt_pre w i = s :: q → s ∈ zt_ss (K q)) → zt_own K (zt_pre w i) x2 → wX_makePath_10 post (nI w) (nI (zt_ly w)) (d + 1) x2 (nI i) ft fc fn fl fu a1 a2 a3 a4 a5 a6 a7 a8 a9 a10 a11 a12 := by
  have hwl := zt_row_lt hw.2
  have hly := (zt_F1 hw).2.2
  intro d
  induction d with
  | zero =>
    intro i hi K fr x2 ft fc a1 a2 a3 a4 a5 a6 hT hR _ _ hown
    have e : i = zt_ly w := by omega
    rw [e] at hT hown ⊢
    exact pk_le (zt_ly w) (zt_ly w) (fun _ => hq K fr x2 ft fc a1 a2 a3 a4 a5 a6 hT hR hown) (fun z => absurd z (by omega))
  | succ d ih =>
    intro i hi K fr x2 ft fc a1 a2 a3 a4 a5 a6 hT hR hfr hss hown
    have hb := zt_sl_b w i
    have hin := zt_inn_pre hw (i := i) (by omega)
    have hK0 : ∀ x, zt_hd (-1) (K (zt_pre w i)) = x → wX_makePath_42 post (wX_makePath_10 post (nI w) (nI (zt_ly w)) (d + 1)) (nI w) x2 (nI (zt_ly w)) (nI i) (nI (zt_sl w i)) x ft fc fn fl fu a1 a2 a3 a4 a5 a6 a7 a8 a9 a10 a11 a12 := by
      intro x ex
      rw [← ex]
      refine zt_mp42 hT hR (fun k => by rw [k] at hfr; simp at hfr) hb.1 hb.2 (by rw [zt_pre_len]; omega) ?_ hown ?_
      · intro s q e
        refine ⟨hss s q e, ?_⟩
        rw [e] at hin
        exact hin.2.2.1
      · intro K' fr' e ft' fc' a1' a2' a3' a4' a5' a6' t1 t2 t3 t4
        refine ih (i + 1) (by omega) K' fr' (nI e) ft' fc' a1' a2' a3' a4' a5' a6' t1 t2 (by omega) ?_ (Or.inr ⟨e, t4, rfl⟩)
        intro s q e'
        have t5 : zt_at K' (zt_pre w (i + 1)) e := t4
        rw [e'] at t5
        exact zt_at_q t5
    refine pk_le (zt_ly w) i (fun z => absurd z (by omega)) (fun _ => zt_sliceOf (by omega) (by omega) ?_)
    rcases hown with ⟨e1, e2⟩ | ⟨e, e1, e2⟩
    · refine br_t e2 (hK0 ft ?_)
      rw [e1]
      exact hT.2.1.symm
    · obtain ⟨f1, f2, f3⟩ := zt_at_m hT e1
      rw [e2] at hK0 ⊢
      refine br_f (zt_nm1 (by omega)) ⟨pk_in e 488 f1, ?_⟩
      rw [nI_clamp (by omega)]
      exact hK0 _ f3.symm
/-- the path of a word is made -/
theorem zt_makePath {post : Int32 → St1 → Prop} {K : List Nat → zt_Ch} {H : List Nat → Bool} {fr : List Nat} {w : Nat} (hw : zt_word w) (h : zt_T zt_no zt_no K H ft a1 a2 a3 a5 a6) (hR : zt_R K fr fc a7) (hfr : 3 ≤ fr.length)
    (hq : ∀ K fr e ft fc a1 a2 a3 a4 a5 a6, zt_T (fun q => q = zt_pre w (zt_ly w)) zt_no K H ft a1 a2 a3 a5 a6 → zt_R K fr fc a7 → zt_at K (zt_pre w (zt_ly w)) e → post (nI e) (ft, fc, fn, fl, fu, a1, a2, a3, a4, a5, a6, a7, a8, a9, a10, a11, a12)) :
    wpX_makePath post (ft, fc, fn, fl, fu, a1, a2, a3, a4, a5, a6, a7, a8, a9, a10, a11, a12) (nI w) := by
  have hwl := zt_row_lt hw.2
  have hly := (zt_F1 hw).2.2
  unfold wpX_makePath
  refine zt_layersOf (by omega) ?_
  refine ⟨zt_ly w + 1, zt_mpL hw ?_ (zt_ly w) 0 (by omega) K fr (-1) ft fc a1 a2 a3 a4 a5 a6 (zt_T_mono h (fun s q _ k => absurd k (fun z => z)) (fun q k => absurd k (fun z => z))) hR (by omega) (fun s q e => by cases e) (Or.inl ⟨rfl, rfl⟩)⟩
  intro K fr x ft fc a1 a2 a3 a4 a5 a6 t1 t2 t3
  rcases t3 with ⟨e1, _⟩ | ⟨e, e1, e2⟩
  · have := congrArg List.length e1
    rw [zt_pre_len] at this
    simp at this
    omega
  · rw [e2]
    exact hq K fr e ft fc a1 a2 a3 a4 a5 a6 t1 t2 e1
end
end
section
/-- the held words, in order: those of one entry, then those of a layer -/
def zt_wf (H : List Nat → Bool) (f : List Nat → List (List Nat)) (p : List Nat) (s : Nat) : List (List Nat) := (if H (s :: p) = true then [s :: p] else []) ++ f (s :: p)
def zt_wd (K : List Nat → zt_Ch) (H : List Nat → Bool) : Nat → List Nat → List (List Nat)
  | 0, _ => []
  | d + 1, p => (zt_ss (K p)).flatMap (zt_wf H (zt_wd K H d) p)
def zt_wds (K : List Nat → zt_Ch) (H : List Nat → Bool) : List (List Nat) := zt_wd K H 3 []
theorem zt_wf_mem {H : List Nat → Bool} {f : List Nat → List (List Nat)} {p q : List Nat} {s : Nat} : q ∈ zt_wf H f p s ↔ (H (s :: p) = true ∧ q = s :: p) ∨ q ∈ f (s :: p) := by
  unfold zt_wf
  rw [List.mem_append]
  by_cases h : H (s :: p) = true
  · rw [if_pos h, List.mem_singleton]
    simp [h]
  · rw [if_neg h]
    simp [h]
theorem zt_wd_H {K : List Nat → zt_Ch} {H : List Nat → Bool} : ∀ d p q, q ∈ zt_wd K H d p → H q = true ∧ ∃ r, r ≠ [] ∧ q = r ++ p := by
  intro d
  induction d with
  | zero =>
    intro p q h
    cases h
  | succ d ih =>
    intro p q h
    obtain ⟨s, _, hs⟩ := List.mem_flatMap.mp h
    rcases zt_wf_mem.mp hs with ⟨h1, h2⟩ | h1
    · rw [h2]
      exact ⟨h1, [s], by simp, rfl⟩
    · obtain ⟨k1, r, k2, k3⟩ := ih _ _ h1
      exact ⟨k1, r ++ [s], by simp, by rw [k3]; simp⟩
theorem zt_K_inn {X E : List Nat → Prop} {K : List Nat → zt_Ch} {H : List Nat → Bool} (h : zt_G X E K H) : ∀ p, K p ≠ [] → zt_inn p ∧ p.length ≤ 2 := by
  obtain ⟨g1, g2, g3, g4, g5, g6, g7, g8⟩ := h
  have : ∀ p, K p ≠ [] → zt_inn p := by
    intro p
    induction p with
    | nil => exact fun _ => trivial
    | cons s p ih =>
      intro hk
      by_cases hs : s ∈ zt_ss (K p)
      · obtain ⟨k1, k2, k3, k4⟩ := g3 p s hs
        refine ⟨k1, k2, k4 hk, ih ?_⟩
        intro k
        rw [k] at hs
        simp [zt_ss] at hs
      · exact absurd (g4 p s hs).1 hk
  intro p hk
  refine ⟨this p hk, ?_⟩
  rcases Nat.lt_or_ge p.length 3 with k | k
  · omega
  · exact absurd (g5 p k) hk
theorem zt_ss_ne {L : zt_Ch} {s : Nat} (h : s ∈ zt_ss L) : L ≠ [] := by
  intro k
  rw [k] at h
  simp [zt_ss] at h
theorem zt_H_in {X E : List Nat → Prop} {K : List Nat → zt_Ch} {H : List Nat → Bool} (h : zt_G X E K H) {s : Nat} {p : List Nat} (hq : H (s :: p) = true) : s ∈ zt_ss (K p) := by
  by_cases hs : s ∈ zt_ss (K p)
  · exact hs
  · have := (h.2.2.2.1 p s hs).2
    rw [hq] at this
    cases this
theorem zt_K_in {X E : List Nat → Prop} {K : List Nat → zt_Ch} {H : List Nat → Bool} (h : zt_G X E K H) {s : Nat} {p : List Nat} (hq : K (s :: p) ≠ []) : s ∈ zt_ss (K p) := by
  by_cases hs : s ∈ zt_ss (K p)
  · exact hs
  · exact absurd (h.2.2.2.1 p s hs).1 hq
theorem zt_H_ok {X E : List Nat → Prop} {K : List Nat → zt_Ch} {H : List Nat → Bool} (h : zt_G X E K H) {q : List Nat} (hq : H q = true) : zt_ok q := by
  cases q with
  | nil =>
    rw [h.2.2.2.2.2.1] at hq
    cases hq
  | cons s p =>
    have hs := zt_H_in h hq
    obtain ⟨k1, k2⟩ := zt_K_inn h p (zt_ss_ne hs)
    obtain ⟨j1, j2, _⟩ := h.2.2.1 p s hs
    exact ⟨j1, j2, k1, k2⟩
theorem zt_wd_own {K : List Nat → zt_Ch} {H : List Nat → Bool} {d s : Nat} {p : List Nat} (hs : s ∈ zt_ss (K p)) (hq : H (s :: p) = true) : s :: p ∈ zt_wd K H (d + 1) p :=
  List.mem_flatMap.mpr ⟨s, hs, zt_wf_mem.mpr (Or.inl ⟨hq, rfl⟩)⟩
theorem zt_wd_sub {K : List Nat → zt_Ch} {H : List Nat → Bool} {d s : Nat} {p q : List Nat} (hs : s ∈ zt_ss (K p)) (hq : q ∈ zt_wd K H d (s :: p)) : q ∈ zt_wd K H (d + 1) p :=
  List.mem_flatMap.mpr ⟨s, hs, zt_wf_mem.mpr (Or.inr hq)⟩
/-- the list of the held words holds the held words -/
theorem zt_wds_iff {X E : List Nat → Prop} {K : List Nat → zt_Ch} {H : List Nat → Bool} (h : zt_G X E K H) (q : List Nat) : q ∈ zt_wds K H ↔ H q = true := by
  constructor
  · intro k
    exact (zt_wd_H 3 [] q k).1
  · intro k
    have ok := zt_H_ok h k
    match q, ok, k with
    | [a], _, k => exact zt_wd_own (zt_H_in h k) k
    | [b, a], _, k =>
      have h1 := zt_H_in h k
      exact zt_wd_sub (zt_K_in h (zt_ss_ne h1)) (zt_wd_own h1 k)
    | [c, b, a], _, k =>
      have h1 := zt_H_in h k
      have h2 := zt_K_in h (zt_ss_ne h1)
      exact zt_wd_sub (zt_K_in h (zt_ss_ne h2)) (zt_wd_sub h2 (zt_wd_own h1 k))
    | _ :: _ :: _ :: _ :: _, ok, _ =>
      have := ok.2.2.2
      simp at this
def zt_lt (q q' : List Nat) : Prop := (∃ r r' s s' p, q = r ++ s :: p ∧ q' = r' ++ s' :: p ∧ s < s') ∨ (∃ r, r ≠ [] ∧ q' = r ++ q)
theorem zt_wf_form {K : List Nat → zt_Ch} {H : List Nat → Bool} {d s : Nat} {p q : List Nat} (h : q ∈ zt_wf H (zt_wd K H d) p s) : ∃ r, q = r ++ s :: p := by
  rcases zt_wf_mem.mp h with ⟨_, k⟩ | k
  · exact ⟨[], k⟩
  · obtain ⟨_, r, _, k⟩ := zt_wd_H _ _ _ k
    exact ⟨r, k⟩
theorem zt_wd_pw {X E : List Nat → Prop} {K : List Nat → zt_Ch} {H : List Nat → Bool} (h : zt_G X E K H) : ∀ d p, (zt_wd K H d p).Pairwise zt_lt := by
  intro d
  induction d with
  | zero =>
    intro p
    exact List.Pairwise.nil
  | succ d ih =>
    intro p
    refine List.pairwise_flatMap.mpr ⟨fun s _ => ?_, ?_⟩
    · unfold zt_wf
      refine List.pairwise_append.mpr ⟨?_, ih (s :: p), fun a ha b hb => ?_⟩
      · by_cases k : H (s :: p) = true
        · rw [if_pos k]
          exact List.pairwise_singleton _ _
        · rw [if_neg k]
          exact List.Pairwise.nil
      · have ea : a = s :: p := by
          by_cases k : H (s :: p) = true
          · rw [if_pos k] at ha
            exact List.mem_singleton.mp ha
          · rw [if_neg k] at ha
            cases ha
        obtain ⟨_, r, r1, r2⟩ := zt_wd_H _ _ _ hb
        exact Or.inr ⟨r, r1, by rw [ea]; exact r2⟩
    · refine List.Pairwise.imp ?_ (h.1 p)
      intro s s' hs x hx y hy
      obtain ⟨r, hr⟩ := zt_wf_form hx
      obtain ⟨r', hr'⟩ := zt_wf_form hy
      exact Or.inl ⟨r, r', s, s', p, hr, hr', hs⟩
theorem zt_pre_app (w n m : Nat) : ∃ t, t.length = m ∧ zt_pre w (n + m) = t ++ zt_pre w n := by
  induction m with
  | zero => exact ⟨[], rfl, rfl⟩
  | succ m ih =>
    obtain ⟨t, t1, t2⟩ := ih
    exact ⟨zt_sl w (n + m) :: t, by simp [t1], by show zt_sl w (n + m) :: zt_pre w (n + m) = _; rw [t2]; rfl⟩
theorem zt_pre_suf {w : Nat} {r p : List Nat} (h : zt_pre w (r ++ p).length = r ++ p) : zt_pre w p.length = p := by
  obtain ⟨t, t1, t2⟩ := zt_pre_app w p.length r.length
  rw [List.length_append, Nat.add_comm, t2] at h
  exact (List.append_inj h t1).2
theorem zt_pre_eq {w w' : Nat} : ∀ m, zt_pre w m = zt_pre w' m → ∀ j, j < m → zt_sl w j = zt_sl w' j := by
  intro m
  induction m with
  | zero =>
    intro _ j hj
    omega
  | succ m ih =>
    intro e j hj
    have e' : zt_sl w m :: zt_pre w m = zt_sl w' m :: zt_pre w' m := e
    injection e' with e1 e2
    by_cases k : j = m
    · rw [k]
      exact e1
    · exact ih e2 j (by omega)
theorem zt_cb_asymm {a b : Nat} (h : zt_cb a b) : ¬ zt_cb b a := by
  rintro (⟨j, j1, j2, j3, j4⟩ | ⟨j1, j2⟩)
  · rcases h with ⟨i, i1, i2, i3, i4⟩ | ⟨i1, i2⟩
    · rcases Nat.lt_trichotomy i j with k | k | k
      · have := j3 i k
        omega
      · subst k
        omega
      · have := i3 j k
        omega
    · have := i1 j j2 j1
      omega
  · rcases h with ⟨i, i1, i2, i3, i4⟩ | ⟨i1, i2⟩
    · have := j1 i i2 i1
      omega
    · omega
theorem zt_lt_cb {q q' : List Nat} (h : zt_lt q q') (o : zt_ok q) (o' : zt_ok q') : zt_cb (zt_code q) (zt_code q') := by
  obtain ⟨_, f2, f3⟩ := zt_F2 o
  obtain ⟨_, f2', f3'⟩ := zt_F2 o'
  rcases h with ⟨r, r', s, s', p, e, e', hs⟩ | ⟨r, r1, r2⟩
  · left
    have k : zt_pre (zt_code q) (s :: p).length = s :: p := zt_pre_suf (r := r) (by rw [← e]; exact f3)
    have k' : zt_pre (zt_code q') (s' :: p).length = s' :: p := zt_pre_suf (r := r') (by rw [← e']; exact f3')
    have m : zt_sl (zt_code q) p.length :: zt_pre (zt_code q) p.length = s :: p := k
    have m' : zt_sl (zt_code q') p.length :: zt_pre (zt_code q') p.length = s' :: p := k'
    injection m with m1 m2
    injection m' with m1' m2'
    have l : q.length = r.length + (p.length + 1) := by rw [e]; simp
    have l' : q'.length = r'.length + (p.length + 1) := by rw [e']; simp
    refine ⟨p.length, by omega, by omega, zt_pre_eq p.length (by rw [m2, m2']), by omega⟩
  · right
    have l : q'.length = r.length + q.length := by rw [r2]; simp
    have lr : r.length ≠ 0 := fun k => r1 (List.length_eq_zero_iff.mp k)
    refine ⟨fun j hj _ => ?_, by omega⟩
    have k : zt_pre (zt_code q') q.length = q := zt_pre_suf (r := r) (by rw [← r2]; exact f3')
    exact zt_pre_eq q.length (by rw [k, f3]) j (by omega)
theorem zt_wds_pw {X E : List Nat → Prop} {K : List Nat → zt_Ch} {H : List Nat → Bool} (h : zt_G X E K H) : (zt_wds K H).Pairwise (fun q q' => zt_cb (zt_code q) (zt_code q')) := by
  refine List.Pairwise.imp_of_mem ?_ (zt_wd_pw h 3 [])
  intro a b ha hb hab
  exact zt_lt_cb hab (zt_H_ok h ((zt_wds_iff h a).mp ha)) (zt_H_ok h ((zt_wds_iff h b).mp hb))
theorem zt_wds_nd {X E : List Nat → Prop} {K : List Nat → zt_Ch} {H : List Nat → Bool} (h : zt_G X E K H) : (zt_wds K H).Nodup := by
  refine List.Pairwise.imp ?_ (zt_wds_pw h)
  intro a b hab e
  rw [e] at hab
  exact zt_cb_asymm hab hab
/-- a word more -/
theorem zt_len_add {X E X' E' : List Nat → Prop} {K K' : List Nat → zt_Ch} {H : List Nat → Bool} {q : List Nat} (h : zt_G X E K H) (h' : zt_G X' E' K' (zt_hup H q true)) (hq : H q = false) : (zt_wds K' (zt_hup H q true)).length = (zt_wds K H).length + 1 := by
  have e := (List.perm_ext_iff_of_nodup (zt_wds_nd h') (List.nodup_cons.mpr ⟨(fun k => by rw [(zt_wds_iff h q).mp k] at hq; exact absurd hq (by decide)), zt_wds_nd h⟩)).mpr (fun a => by
    rw [zt_wds_iff h', List.mem_cons, zt_wds_iff h]
    unfold zt_hup
    by_cases k : a = q
    · simp [k]
    · simp [k])
  have := e.length_eq
  simpa using this
/-- a word less -/
theorem zt_len_sub {X E X' E' : List Nat → Prop} {K K' : List Nat → zt_Ch} {H : List Nat → Bool} {q : List Nat} (h : zt_G X E K H) (h' : zt_G X' E' K' (zt_hup H q false)) (hq : H q = true) : (zt_wds K H).length = (zt_wds K' (zt_hup H q false)).length + 1 := by
  have e := (List.perm_ext_iff_of_nodup (zt_wds_nd h) (List.nodup_cons.mpr ⟨(fun k => by
    have := (zt_wds_iff h' q).mp k
    simp [zt_hup] at this), zt_wds_nd h'⟩)).mpr (fun a => by
    rw [zt_wds_iff h, List.mem_cons, zt_wds_iff h']
    unfold zt_hup
    by_cases k : a = q
    · simp [k, hq]
    · simp [k])
  have := e.length_eq
  simpa using this
/-- the same words -/
theorem zt_len_same {X E X' E' : List Nat → Prop} {K K' : List Nat → zt_Ch} {H H' : List Nat → Bool} (h : zt_G X E K H) (h' : zt_G X' E' K' H') (e : ∀ q, H' q = H q) : (zt_wds K' H').length = (zt_wds K H).length := by
  have e := (List.perm_ext_iff_of_nodup (zt_wds_nd h') (zt_wds_nd h)).mpr (fun a => by rw [zt_wds_iff h', zt_wds_iff h, e])
  exact e.length_eq
/-- below every entry stands a held word -/
theorem zt_down {K : List Nat → zt_Ch} {H : List Nat → Bool} (h : zt_G zt_no zt_no K H) : ∀ d p s, 3 ≤ p.length + d → s ∈ zt_ss (K p) → ∃ r, H (r ++ s :: p) = true := by
  intro d
  induction d with
  | zero =>
    intro p s hp hs
    exact absurd (h.2.2.2.2.1 p (by omega)) (zt_ss_ne hs)
  | succ d ih =>
    intro p s hp hs
    obtain ⟨_, _, k3, _⟩ := h.2.2.1 p s hs
    rcases k3 with k | k | k
    · exact absurd k (fun z => z)
    · exact ⟨[], k⟩
    · obtain ⟨n, B, e⟩ := List.exists_cons_of_ne_nil k
      have hn : n.2 ≠ [] := by
        rcases h.2.1 (s :: p) n (by rw [e]; simp) with j | j
        · exact j
        · exact absurd j (fun z => z)
      obtain ⟨⟨c, t⟩, l, el⟩ := List.exists_cons_of_ne_nil hn
      obtain ⟨r, hr⟩ := ih (s :: p) t (by simp; omega) (zt_ss_mem.mpr ⟨n, c, by rw [e]; simp, by rw [el]; simp⟩)
      exact ⟨r ++ [t], by rw [List.append_assoc]; exact hr⟩
theorem zt_uni2 {L : zt_Ch} (h : (zt_ss L).Pairwise (· < ·)) {n n' : Nat × List (Nat × Nat)} {c c' s : Nat} (hn : n ∈ L) (hn' : n' ∈ L) (hc : (c, s) ∈ n.2) (hc' : (c', s) ∈ n'.2) : n = n' := by
  induction L with
  | nil => cases hn
  | cons m L ih =>
    rw [zt_ss_cons] at h
    obtain ⟨h1, h2, h3⟩ := List.pairwise_append.mp h
    have inL : ∀ n c, n ∈ L → (c, s) ∈ n.2 → s ∈ zt_ss L := fun n c a b => zt_ss_mem.mpr ⟨n, c, a, b⟩
    have inm : ∀ c, (c, s) ∈ m.2 → s ∈ m.2.map Prod.snd := fun c a => List.mem_map.mpr ⟨(c, s), a, rfl⟩
    rcases List.mem_cons.mp hn with e | hn
    · rcases List.mem_cons.mp hn' with e' | hn'
      · rw [e, e']
      · rw [e] at hc
        exact absurd (h3 s (inm c hc) s (inL n' c' hn' hc')) (Nat.lt_irrefl s)
    · rcases List.mem_cons.mp hn' with e' | hn'
      · rw [e'] at hc'
        exact absurd (h3 s (inm c' hc') s (inL n c hn hc)) (Nat.lt_irrefl s)
      · exact ih h2 hn hn'
/-- the node of a path's entry -/
def zt_nf (K : List Nat → zt_Ch) : List Nat → Nat
  | [] => 0
  | s :: p => (((K p).find? (fun n => n.2.any (fun x => x.2 == s))).map Prod.fst).getD 0
theorem zt_nf_eq {X E : List Nat → Prop} {K : List Nat → zt_Ch} {H : List Nat → Bool} (h : zt_G X E K H) {p : List Nat} {n : Nat × List (Nat × Nat)} {c s : Nat} (hn : n ∈ K p) (hc : (c, s) ∈ n.2) : zt_nf K (s :: p) = n.1 := by
  show (((K p).find? (fun n => n.2.any (fun x => x.2 == s))).map Prod.fst).getD 0 = n.1
  cases hf : (K p).find? (fun n => n.2.any (fun x => x.2 == s)) with
  | none =>
    have := List.find?_eq_none.mp hf n hn
    exfalso
    apply this
    rw [List.any_eq_true]
    exact ⟨(c, s), hc, by simp⟩
  | some m =>
    have m1 := List.mem_of_find?_eq_some hf
    have m2 := List.find?_some hf
    rw [List.any_eq_true] at m2
    obtain ⟨⟨c', s'⟩, m3, m4⟩ := m2
    have : s' = s := by simpa using m4
    rw [this] at m3
    rw [zt_uni2 (h.1 p) m1 hn m3 hc]
    rfl
theorem zt_len3 {α β : Type} (a b c : α → β) (l : List α) : (l.flatMap (fun q => [a q, b q, c q])).length = 3 * l.length := by
  induction l with
  | nil => rfl
  | cons x l ih =>
    rw [List.flatMap_cons, List.length_append, ih]
    simp
    omega
/-- there are enough free nodes -/
theorem zt_room {K : List Nat → zt_Ch} {H : List Nat → Bool} {fr : List Nat} {fc : Int32} {a7 : Nat → Int32} (h : zt_G zt_no zt_no K H) (hR : zt_R K fr fc a7) : 122 ≤ fr.length + 3 * (zt_wds K H).length := by
  have key := List.Nodup.length_le_of_subset (l₁ := List.range 122) (l₂ := fr ++ (zt_wds K H).flatMap (fun q => [zt_nf K q, zt_nf K q.tail, zt_nf K q.tail.tail])) List.nodup_range (by
    intro b hb
    rw [List.mem_range] at hb
    by_cases hf : b ∈ fr
    · exact List.mem_append.mpr (Or.inl hf)
    · refine List.mem_append.mpr (Or.inr ?_)
      have : ∃ p, b ∈ zt_ns (K p) := by
        by_cases k : ∃ p, b ∈ zt_ns (K p)
        · exact k
        · exact absurd ((hR.2.2.2 b).mpr ⟨hb, fun p hp => k ⟨p, hp⟩⟩) hf
      obtain ⟨p, hp⟩ := this
      obtain ⟨n, hn, e⟩ := zt_ns_mem.mp hp
      have hn2 : n.2 ≠ [] := by
        rcases h.2.1 p n hn with j | j
        · exact j
        · exact absurd j (fun z => z)
      obtain ⟨⟨c, s⟩, l, el⟩ := List.exists_cons_of_ne_nil hn2
      have hc : (c, s) ∈ n.2 := by rw [el]; simp
      have hs := zt_ss_mem.mpr ⟨n, c, hn, hc⟩
      obtain ⟨r, hr⟩ := zt_down h 3 p s (by omega) hs
      have hq := (zt_wds_iff h _).mpr hr
      have nf := zt_nf_eq h hn hc
      have ok := zt_H_ok h hr
      refine List.mem_flatMap.mpr ⟨_, hq, ?_⟩
      match r, ok with
      | [], _ => simp [nf, e]
      | [x], _ => simp [nf, e]
      | [x, y], _ => simp [nf, e]
      | x :: y :: z :: r, ok =>
        have := ok.2.2.2
        simp at this)
  rw [List.length_range, List.length_append, zt_len3] at key
  exact key
end
section
/-- the listing is that of the picture -/
def zt_Ls (K : List Nat → zt_Ch) (H : List Nat → Bool) (fl : Int32) (a9 : Nat → Int32) : Prop := fl = nI (zt_wds K H).length ∧ ∀ i, i < (zt_wds K H).length → a9 i = nI (zt_code ((zt_wds K H).getD i []))
/-- the whole state against the picture -/
def zt_A (K : List Nat → zt_Ch) (H : List Nat → Bool) (fr : List Nat) (u : St1) : Prop := match u with
  | (ft, fc, fn, fl, fu, a1, a2, a3, a4, a5, a6, a7, a8, a9, a10, a11, a12) => zt_T zt_no zt_no K H ft a1 a2 a3 a5 a6 ∧ zt_R K fr fc a7 ∧ fn = nI (zt_wds K H).length ∧ (zt_wds K H).length ≤ 40 ∧ (fu = 0 ∨ zt_Ls K H fl a9)
def zt_I (u : St1) : Prop := ∃ K H fr, zt_A K H fr u
section
variable {ft fc fn fl fu : Int32} {a1 a2 a3 a4 a5 a6 a7 a8 a9 a10 a11 a12 : Nat → Int32}
theorem zt_put42 {post : Int32 → St1 → Prop} {K : List Nat → zt_Ch} {H : List Nat → Bool} {fr : List Nat} {w : Nat} {v : Int32} (h : zt_A K H fr (ft, fc, fn, fl, fu, a1, a2, a3, a4, a5, a6, a7, a8, a9, a10, a11, a12)) (hw : zt_word w) (hH : H (zt_pre w (zt_ly w)) = false) (hq : ∀ r u, zt_I u → post r u) : wX_put_42 post (nI w) v ft fc fn fl fu a1 a2 a3 a4 a5 a6 a7 a8 a9 a10 a11 a12 := by
  have hA := h
  obtain ⟨hT, hR, hn, h40, _⟩ := h
  have hroom := zt_room hT.1 hR
  unfold wX_put_42
  refine pk_eq (zt_wds K H).length 40 (fun z => hq _ _ ⟨K, H, fr, hA⟩) (fun z => ?_) hn
  refine zt_makePath hw hT hR (by omega) ?_
  intro K' fr' e ft' fc' a1' a2' a3' a4' a5' a6' t1 t2 t3
  obtain ⟨e1, _, _⟩ := zt_at_m t1 t3
  dsimp only
  refine ⟨pk_in e 488 e1, ?_⟩
  rw [nI_clamp (by omega)]
  refine nm_e ⟨pk_in e 488 e1, nm_e (nm_e ?_)⟩
  have t4 : zt_T zt_no zt_no K' (zt_hup H (zt_pre w (zt_ly w)) true) ft' a1' a2' a3' (upd a5' e 1) a6' := zt_hupT (v := true) t1 t3 (fun s p _ k k2 => absurd k k2) (Or.inr (Or.inl rfl))
  have hl := zt_len_add hT.1 t4.1 hH
  refine hq _ _ ⟨K', _, fr', t4, t2, ?_, by omega, Or.inl rfl⟩
  rw [hl, hn, nI_1]
theorem zt_put {post : Int32 → St1 → Prop} {w : Nat} {v : Int32} (h : zt_I (ft, fc, fn, fl, fu, a1, a2, a3, a4, a5, a6, a7, a8, a9, a10, a11, a12)) (hw : w < 2 ^ 31) (hq : ∀ r u, zt_I u → post r u) : wpX_put post (ft, fc, fn, fl, fu, a1, a2, a3, a4, a5, a6, a7, a8, a9, a10, a11, a12) (nI w) v := by
  have hI := h
  obtain ⟨K, H, fr, hA⟩ := h
  have hA' := hA
  obtain ⟨hT, hR, hn, h40, _⟩ := hA'
  unfold wpX_put
  refine zt_isWord hw (fun hwd => br_f (by decide) ?_) (fun _ => br_t rfl (hq _ _ hI))
  refine zt_find hwd hT ?_ ?_
  · intro e e1 e2 e3
    refine br_f (nI_pos (by omega)) ⟨pk_in e 488 e1, ?_⟩
    rw [nI_clamp (by omega), e3]
    cases hH : H (zt_pre w (zt_ly w)) with
    | false => exact br_t rfl (zt_put42 hA hwd hH hq)
    | true => exact br_f (by decide) ⟨pk_in e 488 e1, nm_e (hq _ _ ⟨K, H, fr, hT, hR, hn, h40, Or.inl rfl⟩)⟩
  · intro hH
    exact br_t (by decide) (zt_put42 hA hwd hH hq)
end
theorem zt_sowL {post : Int32 → St1 → Prop} {w st m : Nat} {x3 : Int32} (hw : w < 524288) (hst : st ≤ 1000) (hm : m ≤ 30) (hq : ∀ r u, zt_I u → post r u) : ∀ d k, k + d = m → ∀ ft fc fn fl fu a1 a2 a3 a4 a5 a6 a7 a8 a9 a10 a11 a12, zt_I (ft, fc, fn, fl, fu, a1, a2, a3, a4, a5, a6, a7, a8, a9, a10, a11, a12) → wX_sow_60 post (nI w) x3 (nI st) (nI m) (d + 1) (nI k) ft fc fn fl fu a1 a2 a3 a4 a5 a6 a7 a8 a9 a10 a11 a12 := by
  intro d
  induction d with
  | zero =>
    intro k hk ft fc fn fl fu a1 a2 a3 a4 a5 a6 a7 a8 a9 a10 a11 a12 h
    have e : k = m := by omega
    exact pk_le m k (fun _ => hq _ _ h) (fun z => absurd z (by omega))
  | succ d ih =>
    intro k hk ft fc fn fl fu a1 a2 a3 a4 a5 a6 a7 a8 a9 a10 a11 a12 h
    have hle : k * st ≤ 30 * 1000 := Nat.mul_le_mul (by omega) hst
    refine pk_le m k (fun z => absurd z (by omega)) (fun _ => nm_r (e' := nI (w + k * st)) (by rw [pk_mul, nI_add]) ?_)
    refine zt_isWord (by omega) (fun _ => br_f (by decide) ?_) (fun _ => br_t rfl (nm_r (nI_1 k) (ih (k + 1) (by omega) _ _ _ _ _ _ _ _ _ _ _ _ _ _ _ _ _ h)))
    refine zt_put h (by omega) ?_
    rintro r ⟨ft', fc', fn', fl', fu', a1', a2', a3', a4', a5', a6', a7', a8', a9', a10', a11', a12'⟩ h'
    exact nm_r (nI_1 k) (ih (k + 1) (by omega) _ _ _ _ _ _ _ _ _ _ _ _ _ _ _ _ _ h')
section
variable {ft fc fn fl fu : Int32} {a1 a2 a3 a4 a5 a6 a7 a8 a9 a10 a11 a12 : Nat → Int32}
theorem zt_sow {post : Int32 → St1 → Prop} {w : Nat} {pl v : Int32} (h : zt_I (ft, fc, fn, fl, fu, a1, a2, a3, a4, a5, a6, a7, a8, a9, a10, a11, a12)) (hw : w < 2 ^ 31) (hq : ∀ r u, zt_I u → post r u) : wpX_sow post (ft, fc, fn, fl, fu, a1, a2, a3, a4, a5, a6, a7, a8, a9, a10, a11, a12) (nI w) pl v := by
  unfold wpX_sow
  refine zt_isWord hw (fun hwd => br_f (by decide) ?_) (fun _ => br_t rfl (hq _ _ h))
  by_cases hneg : pl < 0
  · exact nm_e (nm_e (br_t hneg (hq _ _ h)))
  · obtain ⟨j, hj, e⟩ := nI_of hneg
    subst e
    refine nm_r (pk_shrN hj _ 5 (by decide)) (nm_r (pk_andN (by omega) 5 (by decide)) (br_f hneg ?_))
    refine pk_lt (j / 2 ^ 5) 1 (fun _ => hq _ _ h) (fun z1 => pk_le (j / 2 ^ 5) 1000 (fun z2 => pk_lt (j % 2 ^ 5) 1 (fun _ => hq _ _ h) (fun z3 => pk_le (j % 2 ^ 5) 30 (fun z4 => ?_) (fun _ => hq _ _ h))) (fun _ => hq _ _ h))
    exact ⟨_, zt_sowL (zt_row_lt hwd.2) z2 z4 hq (j % 2 ^ 5) 0 (by omega) _ _ _ _ _ _ _ _ _ _ _ _ _ _ _ _ _ h⟩
end
end
section
theorem zt_hoK {X E : List Nat → Prop} {K : List Nat → zt_Ch} {H : List Nat → Bool} (h : zt_G X E K H) {p : List Nat} (hp : K p ≠ []) : p.length ≤ 2 ∧ ∀ s q, p = s :: q → s ∈ zt_ss (K q) ∧ s % 9 ≠ 0 := by
  refine ⟨(zt_K_inn h p hp).2, fun s q e => ?_⟩
  rw [e] at hp
  have := zt_K_in h hp
  exact ⟨this, (h.2.2.1 q s this).2.2.2 hp⟩
/-- the entry's place in its node -/
theorem zt_place {es e1 e2 : List (Nat × Nat)} {c s : Nat} (hs : (es.map Prod.snd).Pairwise (· < ·)) (hc : (c, s) ∈ es) (ee : es = e1 ++ e2) (q1 : ∀ x, x ∈ e1 → x.2 < s) (q2 : ∀ x, x ∈ e2 → s ≤ x.2) : ∃ r, e2 = (c, s) :: r := by
  rw [ee] at hc hs
  rcases List.mem_append.mp hc with k | k
  · have := q1 _ k
    simp at this
  · cases e2 with
    | nil => cases k
    | cons x r =>
      rcases List.mem_cons.mp k with k | k
      · exact ⟨r, by rw [k]⟩
      · rw [List.map_append, List.map_cons] at hs
        have p2 := (List.pairwise_cons.mp (List.pairwise_append.mp hs).2.1).1 s (List.mem_map.mpr ⟨_, k, rfl⟩)
        have := q2 x (by simp)
        omega
theorem zt_pw_mid {l1 l2 : List Nat} {s t : Nat} (h : (l1 ++ s :: l2).Pairwise (· < ·)) : (t ∈ l1 ++ l2 ↔ t ∈ l1 ++ s :: l2 ∧ t ≠ s) ∧ (l1 ++ l2).Pairwise (· < ·) := by
  obtain ⟨p1, p2, p3⟩ := List.pairwise_append.mp h
  obtain ⟨p4, p5⟩ := List.pairwise_cons.mp p2
  constructor
  · simp only [List.mem_append, List.mem_cons]
    constructor
    · rintro (k | k)
      · have := p3 t k s (by simp)
        exact ⟨Or.inl k, by omega⟩
      · have := p4 t k
        exact ⟨Or.inr (Or.inr k), by omega⟩
    · rintro ⟨k | k | k, k2⟩
      · exact Or.inl k
      · exact absurd k k2
      · exact Or.inr k
  · exact List.pairwise_append.mpr ⟨p1, p5, fun a ha b hb => p3 a ha b (List.mem_cons_of_mem _ hb)⟩
/-- the last entry of a node goes, and the node with it -/
theorem zt_dropT {X : List Nat → Prop} {K : List Nat → zt_Ch} {H : List Nat → Bool} {ft ft' : Int32} {a1 a2 a3 a5 a6 a1' a2' a6' : Nat → Int32} {p : List Nat} {A B : zt_Ch} {b c s : Nat} (h : zt_T X zt_no K H ft a1 a2 a3 a5 a6)
    (hK : K p = A ++ (b, [(c, s)]) :: B) (hX : ∀ q, X q → q = s :: p) (hH : H (s :: p) = false) (hKs : K (s :: p) = [])
    (o1 : ∀ x, x ≠ b → a1' x = a1 x) (o2 : zt_ch a1' a2' (A ++ B) (-1)) (o3 : ∀ q n, q ≠ p → n ∈ K q → a2' n.1 = a2 n.1)
    (h0 : ft' = if p = [] then zt_hd (-1) (A ++ B) else ft) (h1 : ∀ e, zt_at K p e → a6' e = zt_hd (-1) (A ++ B)) (h2 : ∀ e, ¬ zt_at K p e → a6' e = a6 e) :
    zt_T (fun q => q = p) zt_no (zt_up K p (A ++ B)) H ft' a1' a2' a3 a5 a6' := by
  have hT := h
  obtain ⟨⟨g1, g2, g3, g4, g5, g6, g7, g8⟩, w1, w2, w3⟩ := h
  obtain ⟨hp, ho⟩ := zt_hoK hT.1 (p := p) (by rw [hK]; simp)
  have gp := g7 p
  rw [hK] at gp
  obtain ⟨nA, nB⟩ := zt_ns_ne gp
  have bm : (b, [(c, s)]) ∈ K p := by rw [hK]; simp
  have bp : b ∈ zt_ns (K p) := zt_ns_mem.mpr ⟨_, bm, rfl⟩
  have ess : zt_ss (K p) = zt_ss A ++ s :: zt_ss B := by
    rw [hK, zt_ss_app, zt_ss_cons]
    simp
  have ess2 : zt_ss (A ++ B) = zt_ss A ++ zt_ss B := zt_ss_app A B
  have gs := g1 p
  rw [ess] at gs
  have hmem : ∀ t, t ∈ zt_ss (A ++ B) ↔ t ∈ zt_ss (K p) ∧ t ≠ s := by
    intro t
    rw [ess, ess2]
    exact (zt_pw_mid gs).1
  have ins : ∀ n, n ∈ A ++ B → n ∈ K p ∧ n.1 ≠ b := by
    intro n hn
    rw [hK]
    rcases List.mem_append.mp hn with k | k
    · exact ⟨by simp [k], nA n k⟩
    · exact ⟨by simp [k], nB n k⟩
  have nq : ∀ q n, q ≠ p → n ∈ K q → n.1 ≠ b := by
    intro q n hq hn e
    exact hq (g8 q p b (zt_ns_mem.mpr ⟨n, hn, e⟩) bp)
  refine zt_upT hT hp (fun t q e => ⟨(ho t q e).1, fun _ => (ho t q e).2, Or.inl rfl⟩) ?_ (fun q _ k => k) ?_ ?_ ?_ ?_ ?_ ?_ h0 o2 ?_ ?_ ?_
  · intro t q hq hq2 ht k
    have := hX _ k
    injection this with e1 e2
    exact absurd e2 hq
  · rw [ess2]
    exact (zt_pw_mid (t := 0) gs).2
  · intro n hn
    exact g2 p n (ins n hn).1
  · intro t ht
    obtain ⟨k1, k2⟩ := (hmem t).mp ht
    obtain ⟨j1, j2, j3, j4⟩ := g3 p t k1
    refine ⟨j1, j2, ?_, j4⟩
    rcases j3 with j3 | j3
    · have := hX _ j3
      injection this with e1 e2
      exact absurd e1 k2
    · exact Or.inr j3
  · intro t ht
    by_cases e : t = s
    · rw [e]
      exact ⟨hKs, hH⟩
    · exact g4 p t (fun k => ht ((hmem t).mpr ⟨k, e⟩))
  · rw [zt_ns_app, zt_ns_cons] at gp
    rw [zt_ns_app]
    obtain ⟨d1, d2, d3⟩ := List.nodup_append.mp gp
    exact List.nodup_append.mpr ⟨d1, (List.nodup_cons.mp d2).2, fun x hx y hy => d3 x hx y (List.mem_cons_of_mem _ hy)⟩
  · intro q x hq hx hx2
    obtain ⟨n, hn, e⟩ := zt_ns_mem.mp hx
    exact hq (g8 q p x hx2 (zt_ns_mem.mpr ⟨n, (ins n hn).1, e⟩))
  · intro n c' t hn hc
    obtain ⟨k1, k2⟩ := ins n hn
    obtain ⟨v1, v2, v3⟩ := w3 p n c' t k1 hc
    refine ⟨v1, v2, ?_⟩
    rw [h2, v3]
    intro k
    exact zt_cne t p (zt_at_inj hT ⟨t, p, n, c', rfl, k1, hc, rfl⟩ k)
  · intro q n hq hn
    exact ⟨o1 _ (nq q n hq hn), o3 q n hq hn⟩
  · intro q n c' t hq hn hc
    refine ⟨rfl, rfl, ?_⟩
    have ha : zt_at K (t :: q) (4 * n.1 + c') := ⟨t, q, n, c', rfl, hn, hc, rfl⟩
    by_cases e : t :: q = p
    · rw [if_pos e, h1 _ (by rw [← e]; exact ha)]
    · rw [if_neg e]
      exact h2 _ (fun k => e (zt_at_inj hT ha k))
theorem zt_R_lt {K : List Nat → zt_Ch} {fr : List Nat} {fc : Int32} {a7 : Nat → Int32} (h : zt_R K fr fc a7) {b : Nat} {p : List Nat} (hb : b < 122) (hp : b ∈ zt_ns (K p)) : fr.length < 122 := by
  have := List.Nodup.length_le_of_subset (l₁ := b :: fr) (l₂ := List.range 122) (List.nodup_cons.mpr ⟨fun k => ((h.2.2.2 b).mp k).2 p hp, h.2.2.1⟩) (fun x hx => by
    rcases List.mem_cons.mp hx with k | k
    · rw [k]
      exact List.mem_range.mpr hb
    · exact List.mem_range.mpr ((h.2.2.2 x).mp k).1)
  rw [List.length_range, List.length_cons] at this
  exact this
section
variable {ft fc fn fl fu : Int32} {a1 a2 a3 a4 a5 a6 a7 a8 a9 a10 a11 a12 : Nat → Int32}
theorem zt_give {post : St1 → Prop} {K : List Nat → zt_Ch} {fr : List Nat} {b : Nat} (h : zt_R K fr fc a7) (hb : b < 122) {p : List Nat} (hp : b ∈ zt_ns (K p)) (hq : post (ft, nI (fr.length + 1), fn, fl, fu, a1, a2, a3, a4, a5, a6, upd a7 fr.length (nI b), a8, a9, a10, a11, a12)) : wX_unlink_88 post (nI b) ft fc fn fl fu a1 a2 a3 a4 a5 a6 a7 a8 a9 a10 a11 a12 := by
  have hl := zt_R_lt h hb hp
  unfold wX_unlink_88
  unfold wpX_giveNode
  rw [h.1]
  refine ⟨pk_in fr.length 122 hl, ?_⟩
  rw [nI_clamp (by omega)]
  exact nm_e (nm_r (nI_1 _) hq)
/-- the walk to the node ahead of b -/
theorem zt_ulL {post : St1 → Prop} {a1o : Nat → Int32} {b : Nat} {A B : zt_Ch} {es : List (Nat × Nat)} (hb : b < 122) (hc : zt_ch a1o a2 (A ++ (b, es) :: B) (-1)) (nA : ∀ n, n ∈ A → n.1 ≠ b)
    (hq : ∀ A1 m, A = A1 ++ [m] → m.1 < 122 → wX_unlink_75 post (nI b) (nI m.1) ft fc fn fl fu a1 a2 a3 a4 a5 a6 a7 a8 a9 a10 a11 a12) :
    ∀ A2 m A1, A = A1 ++ m :: A2 → ∃ f, wX_unlink_41 post (nI b) ft fc fn fl fu a1 a2 a3 a4 a5 a6 a7 a8 a9 a10 a11 a12 f (nI m.1) := by
  intro A2
  induction A2 with
  | nil =>
    intro m A1 e
    have hc' := hc
    rw [e, List.append_assoc, zt_ch_app] at hc'
    obtain ⟨_, c1, _, c2, _⟩ := hc'
    have c3 : a2 m.1 = nI b := c2
    refine ⟨1, pk_in m.1 122 c1, ?_⟩
    rw [nI_clamp (by omega), c3]
    exact br_f (zt_nm1 (by omega)) ⟨pk_in m.1 122 c1, br_t rfl (hq A1 m e c1)⟩
  | cons m' A2 ih =>
    intro m A1 e
    obtain ⟨f, hf⟩ := ih m' (A1 ++ [m]) (by rw [e]; simp)
    have hc' := hc
    rw [e, List.append_assoc, zt_ch_app] at hc'
    obtain ⟨_, c1, _, c2, c4, _⟩ := hc'
    have c3 : a2 m.1 = nI m'.1 := c2
    have c5 : m'.1 < 122 := c4
    have hne : ¬ nI m'.1 = nI b := fun k => nA m' (by rw [e]; simp) ((nI_eq (by omega) (by omega)).mp k)
    refine ⟨f + 1, pk_in m.1 122 c1, ?_⟩
    rw [nI_clamp (by omega), c3]
    exact br_f (zt_nm1 (by omega)) ⟨pk_in m.1 122 c1, br_f hne ⟨pk_in m.1 122 c1, nm_e hf⟩⟩
theorem zt_unlink {post : St1 → Prop} {X : List Nat → Prop} {K : List Nat → zt_Ch} {H : List Nat → Bool} {fr p : List Nat} {A B : zt_Ch} {b c s : Nat} {o : Int32} {a1o : Nat → Int32} (h : zt_T X zt_no K H ft a1o a2 a3 a5 a6)
    (hK : K p = A ++ (b, [(c, s)]) :: B) (hX : ∀ q, X q → q = s :: p) (hH : H (s :: p) = false) (hKs : K (s :: p) = [])
    (o1 : ∀ x, x ≠ b → a1 x = a1o x) (hR : zt_R K fr fc a7) (hown : zt_own K p o)
    (hq : ∀ fr' ft' fc' a2' a6' a7', zt_T (fun q => q = p) zt_no (zt_up K p (A ++ B)) H ft' a1 a2' a3 a5 a6' → zt_R (zt_up K p (A ++ B)) fr' fc' a7' → post (ft', fc', fn, fl, fu, a1, a2', a3, a4, a5, a6', a7', a8, a9, a10, a11, a12)) :
    wpX_unlink post (ft, fc, fn, fl, fu, a1, a2, a3, a4, a5, a6, a7, a8, a9, a10, a11, a12) o (nI b) := by
  have hT := h
  obtain ⟨⟨g1, g2, g3, g4, g5, g6, g7, g8⟩, w1, w2, w3⟩ := h
  have bm : (b, [(c, s)]) ∈ K p := by rw [hK]; simp
  have bp : b ∈ zt_ns (K p) := zt_ns_mem.mpr ⟨_, bm, rfl⟩
  have hb : b < 122 := (zt_ch_mem (w2 p) bm).1
  have gp := g7 p
  rw [hK] at gp
  obtain ⟨nA, nB⟩ := zt_ns_ne gp
  have wp := w2 p
  rw [hK] at wp
  obtain ⟨wA, _, _, wb3, wB⟩ := zt_ch_app.mp wp
  dsimp only at wb3
  have hns : ∀ x, x ∈ zt_ns (A ++ B) ↔ x ∈ zt_ns (K p) ∧ x ≠ b := by
    intro x
    rw [hK]
    simp only [zt_ns_app, zt_ns_cons, List.mem_append, List.mem_cons]
    constructor
    · rintro (k | k)
      · obtain ⟨n, hn, e⟩ := zt_ns_mem.mp k
        exact ⟨Or.inl k, fun e2 => nA n hn (e.trans e2)⟩
      · obtain ⟨n, hn, e⟩ := zt_ns_mem.mp k
        exact ⟨Or.inr (Or.inr k), fun e2 => nB n hn (e.trans e2)⟩
    · rintro ⟨k | k | k, k2⟩
      · exact Or.inl k
      · exact absurd k k2
      · exact Or.inr k
  have hR' : zt_R (zt_up K p (A ++ B)) (fr ++ [b]) (nI (fr.length + 1)) (upd a7 fr.length (nI b)) := zt_R_give hR hb (fun q k => g8 q p b k bp) bp hns
  have main : ∀ z0, z0 = zt_hd (-1) (K p) → wX_unlink_18 post o (nI b) z0 ft fc fn fl fu a1 a2 a3 a4 a5 a6 a7 a8 a9 a10 a11 a12 := by
    intro z0 ez
    unfold wX_unlink_18
    by_cases hA : A = []
    · have ez' : z0 = nI b := by
        rw [ez, hK, hA]
        rfl
      refine br_t ez' ⟨pk_in b 122 hb, ?_⟩
      rw [nI_clamp (by omega), wb3]
      refine zt_setHead hT.1 (fun e he => (zt_at_m hT he).1) hown ?_
      intro ft' a6' k1 k2 k3
      dsimp only
      refine zt_give hR hb bp (hq _ _ _ _ _ _ (zt_dropT hT hK hX hH hKs o1 ?_ (fun _ _ _ _ => rfl) ?_ ?_ k3) hR')
      · rw [hA]
        refine zt_ch_fr (fun x hx => ?_) wB
        obtain ⟨n, hn, rfl⟩ := zt_ns_mem.mp hx
        exact ⟨o1 _ (nB n hn), rfl⟩
      · rw [hA]
        exact k1
      · rw [hA]
        exact k2
    · obtain ⟨a, A', eA⟩ := List.exists_cons_of_ne_nil hA
      have ez' : z0 = nI a.1 := by
        rw [ez, hK, eA]
        rfl
      have ha : a ∈ K p := by rw [hK, eA]; simp
      have ha1 := (zt_ch_mem (w2 p) ha).1
      have hhd : zt_hd (-1) (A ++ B) = zt_hd (-1) (K p) := by
        rw [hK, eA]
        rfl
      refine br_f ?_ ?_
      · rw [ez']
        exact fun k => nA a (by rw [eA]; simp) ((nI_eq (by omega) (by omega)).mp k)
      · rw [ez']
        refine zt_ulL hb wp nA ?_ A' a [] eA
        intro A1 m eA1 hm
        unfold wX_unlink_75
        refine ⟨pk_in b 122 hb, pk_in m.1 122 hm, ?_⟩
        rw [nI_clamp (by omega : b < 2 ^ 31), nI_clamp (by omega : m.1 < 2 ^ 31), wb3]
        refine nm_e (zt_give hR hb bp (hq _ _ _ _ _ _ (zt_dropT hT hK hX hH hKs o1 ?_ ?_ ?_ ?_ (fun _ _ => rfl)) hR'))
        · have mp : m ∈ K p := by rw [hK, eA1]; simp
          have gp' := gp
          rw [eA1, List.append_assoc] at gp'
          obtain ⟨mA, mB⟩ := zt_ns_ne (A := A1) (b := m.1) (es := m.2) (B := (b, [(c, s)]) :: B) gp'
          rw [eA1, zt_ch_app] at wA
          rw [eA1, List.append_assoc, zt_ch_app]
          refine ⟨zt_ch_fr (fun x hx => ?_) wA.1, hm, ?_, pk_us, zt_ch_fr (fun x hx => ?_) wB⟩
          · obtain ⟨n, hn, rfl⟩ := zt_ns_mem.mp hx
            exact ⟨o1 _ (nA n (by rw [eA1]; simp [hn])), pk_un (mA n hn)⟩
          · rw [o1 _ (nA m (by rw [eA1]; simp))]
            exact wA.2.2.1
          · obtain ⟨n, hn, rfl⟩ := zt_ns_mem.mp hx
            exact ⟨o1 _ (nB n hn), pk_un (mB n (List.mem_cons_of_mem _ hn))⟩
        · intro q n hn hq'
          have mp : m.1 ∈ zt_ns (K p) := zt_ns_mem.mpr ⟨m, by rw [hK, eA1]; simp, rfl⟩
          exact pk_un (fun k => hn (g8 q p m.1 (zt_ns_mem.mpr ⟨n, hq', k⟩) mp))
        · rw [hhd]
          by_cases e : p = []
          · rw [if_pos e, e]
            exact w1
          · rw [if_neg e]
        · intro e he
          rw [hhd]
          exact (zt_at_m hT he).2.2
  rcases hown with ⟨e1, e2⟩ | ⟨e, e1, e2⟩
  · refine br_t e2 (main _ ?_)
    rw [e1]
    exact w1
  · obtain ⟨f1, _, f3⟩ := zt_at_m hT e1
    refine br_f (by rw [e2]; exact zt_nm1 (by omega)) ⟨by rw [e2]; exact pk_in e 488 f1, main _ ?_⟩
    rw [e2, nI_clamp (by omega)]
    exact f3
/-- an entry goes -/
theorem zt_dropEntry {post : St1 → Prop} {X : List Nat → Prop} {K : List Nat → zt_Ch} {H : List Nat → Bool} {fr p : List Nat} {s e : Nat} {o : Int32} (h : zt_T X zt_no K H ft a1 a2 a3 a5 a6)
    (hat : zt_at K (s :: p) e) (hX : ∀ q, X q → q = s :: p) (hH : H (s :: p) = false) (hKs : K (s :: p) = []) (hR : zt_R K fr fc a7) (hown : zt_own K p o)
    (hq : ∀ L fr' ft' fc' a1' a2' a6' a7', zt_T (fun q => q = p) zt_no (zt_up K p L) H ft' a1' a2' a3 a5 a6' → zt_R (zt_up K p L) fr' fc' a7' → post (ft', fc', fn, fl, fu, a1', a2', a3, a4, a5, a6', a7', a8, a9, a10, a11, a12)) :
    wpX_dropEntry post (ft, fc, fn, fl, fu, a1, a2, a3, a4, a5, a6, a7, a8, a9, a10, a11, a12) o (nI e) := by
  have hT := h
  obtain ⟨⟨g1, g2, g3, g4, g5, g6, g7, g8⟩, w1, w2, w3⟩ := h
  obtain ⟨s', p', ⟨b, es⟩, c, e0, hn, hc, e1⟩ := hat
  injection e0 with e2 e3
  subst e2 e3
  dsimp only at hc e1
  obtain ⟨b1, c4⟩ := zt_c4 hT.2 hn hc
  obtain ⟨_, b2⟩ := zt_ch_mem (w2 p) hn
  dsimp only at b1 b2
  obtain ⟨A, B, hK⟩ := List.append_of_mem hn
  have hsn := g1 p
  rw [hK, zt_ss_app, zt_ss_cons] at hsn
  have hse : (es.map Prod.snd).Pairwise (· < ·) := (List.pairwise_append.mp (List.pairwise_append.mp hsn).2.1).1
  obtain ⟨hp, ho⟩ := zt_hoK hT.1 (p := p) (by rw [hK]; simp)
  have sb := g3 p s (zt_ss_mem.mpr ⟨_, c, hn, hc⟩)
  have hl4 := (zt_ord_len b2).2.1
  rw [List.length_map] at hl4
  unfold wpX_dropEntry
  rw [e1]
  have ed : nI (4 * b + c) / 4 = nI b := by
    have := pk_div (a := 4 * b + c) (d := 4) (by omega) (by decide) (by decide)
    rw [show (4 * b + c) / 4 = b by omega] at this
    exact this
  have em : nI (4 * b + c) - nI b * 4 = nI c := by
    rw [show (4 : Int32) = nI 4 from rfl, pk_mul, pk_sub (by omega)]
    congr 1
    omega
  refine ⟨by decide, nm_r ed (zt_sizeN b1 b2 ⟨pk_in (4 * b + c) 488 (by omega), ?_⟩)⟩
  rw [nI_clamp (by omega : 4 * b + c < 2 ^ 31), (w3 p (b, es) c s hn hc).1, ed, em]
  refine zt_lesserIn (es := es) (by omega) b1 b2 (fun c' t hct => ⟨(w3 p (b, es) c' t hn hct).1, ?_⟩) hse ?_
  · have := (g3 p t (zt_ss_mem.mpr ⟨_, c', hn, hct⟩)).2.1
    omega
  intro e1' e2' ee q1 q2
  obtain ⟨r, er⟩ := zt_place hse hc ee q1 q2
  rw [er] at ee
  have hk : e1'.length < (es.map Prod.fst).length := by
    rw [List.length_map, ee]
    simp
  have ho' := zt_ord_d b2 hk
  have eget : (es.map Prod.fst).getD e1'.length 0 = c := by
    rw [ee]
    simp
  have etake : (es.map Prod.fst).take e1'.length ++ (es.map Prod.fst).drop (e1'.length + 1) = (e1' ++ r).map Prod.fst := by
    rw [ee, List.map_append, List.map_cons, List.take_left' (by simp), ← List.drop_drop, List.drop_left' (by simp)]
    simp
  rw [eget, etake] at ho'
  refine ⟨pk_in b 122 b1, ?_⟩
  rw [nI_clamp (by omega : b < 2 ^ 31)]
  refine nm_e (nm_e (nm_e (nm_e ⟨by decide, nm_e (nm_e ⟨pk_in b 122 b1, nm_e ?_⟩)⟩)))
  rw [List.length_map] at ho' ⊢
  refine pk_eq es.length 1 (fun z => ?_) (fun z => ?_)
  · have hlen : es.length = e1'.length + (r.length + 1) := by rw [ee]; simp
    have h1 : e1' = [] := List.length_eq_zero_iff.mp (by omega)
    have h2 : r = [] := List.length_eq_zero_iff.mp (by omega)
    rw [h1, h2] at ee
    rw [ee] at hK
    refine zt_unlink hT hK hX hH hKs (fun x hx => pk_un hx) hR hown ?_
    intro fr' ft' fc' a2' a6' a7' t1 t2
    exact hq _ fr' ft' fc' _ a2' a6' a7' t1 t2
  · have ess : zt_ss (A ++ (b, e1' ++ r) :: B) = (zt_ss A ++ e1'.map Prod.snd) ++ (r.map Prod.snd ++ zt_ss B) := by
      rw [zt_ss_app, zt_ss_cons]
      simp
    have ess0 : zt_ss (K p) = (zt_ss A ++ e1'.map Prod.snd) ++ s :: (r.map Prod.snd ++ zt_ss B) := by
      rw [hK, zt_ss_app, zt_ss_cons, ee]
      simp
    have gs := g1 p
    rw [ess0] at gs
    have hmem : ∀ t, t ∈ zt_ss (A ++ (b, e1' ++ r) :: B) ↔ t ∈ zt_ss (K p) ∧ t ≠ s := by
      intro t
      rw [ess, ess0]
      exact (zt_pw_mid gs).1
    refine hq (A ++ (b, e1' ++ r) :: B) fr ft fc _ a2 a6 a7 (zt_nodeT hT hK hp ho ?_ (fun _ _ k => k) ?_ ?_ ?_ ?_ ?_ ?_ ?_ (fun _ _ _ _ => ⟨rfl, rfl, rfl⟩)) (zt_R_same hR (by rw [hK]; exact zt_ns_same _ _ _ _ _))
    · intro t q hq' hq2 ht k
      have := hX _ k
      injection this with e1 e2
      exact absurd e2 hq'
    · rw [ess]
      exact (zt_pw_mid (t := 0) gs).2
    · intro n hn'
      left
      have old : n ∈ K p → n.2 ≠ [] := by
        intro k
        rcases g2 p n k with j | j
        · exact j
        · exact absurd j (fun z => z)
      rcases List.mem_append.mp hn' with k | k
      · exact old (by rw [hK]; simp [k])
      · rcases List.mem_cons.mp k with k | k
        · rw [k]
          intro j
          have hlen : es.length = e1'.length + (r.length + 1) := by rw [ee]; simp
          have j1 : e1' ++ r = [] := j
          obtain ⟨j2, j3⟩ := List.append_eq_nil_iff.mp j1
          rw [j2, j3] at hlen
          exact z hlen
        · exact old (by rw [hK]; simp [k])
    · intro t ht
      obtain ⟨k1, k2⟩ := (hmem t).mp ht
      obtain ⟨j1, j2, j3, j4⟩ := g3 p t k1
      refine ⟨j1, j2, ?_, j4⟩
      rcases j3 with j3 | j3
      · have := hX _ j3
        injection this with e1 e2
        exact absurd e1 k2
      · exact Or.inr j3
    · intro t ht
      by_cases e : t = s
      · rw [e]
        exact ⟨hKs, hH⟩
      · exact g4 p t (fun k => ht ((hmem t).mpr ⟨k, e⟩))
    · rw [pk_us]
      exact ho'
    · intro x hx
      exact pk_un hx
    · intro c' t ht
      refine w3 p (b, es) c' t hn ?_
      show (c', t) ∈ es
      rw [ee]
      simp only [List.mem_append, List.mem_cons] at ht ⊢
      rcases ht with k | k
      · exact Or.inl k
      · exact Or.inr (Or.inr k)
end
end
section
/-- the counter of a loop that ends at -1 -/
def zt_x4 : Nat → Int32
  | 0 => -1
  | m + 1 => nI m
theorem zt_x4m (m : Nat) : nI m + (-1) = zt_x4 m := by
  cases m with
  | zero => decide
  | succ m => exact pk_m1 m
theorem zt_pre_ne {w i j : Nat} (h : i ≠ j) : zt_pre w i ≠ zt_pre w j := by
  intro e
  have := congrArg List.length e
  rw [zt_pre_len, zt_pre_len] at this
  exact h this
theorem zt_at_up {K : List Nat → zt_Ch} {w i j e : Nat} {L : zt_Ch} (h : zt_at K (zt_pre w (i + 1)) e) (hij : i ≠ j) : zt_at (zt_up K (zt_pre w j) L) (zt_pre w (i + 1)) e := by
  obtain ⟨s, p, n, c, e0, hn, hc, e1⟩ := h
  have e0' : zt_sl w i :: zt_pre w i = s :: p := e0
  injection e0' with e2 e3
  refine ⟨s, p, n, c, e0, ?_, hc, e1⟩
  rw [zt_up_n]
  · exact hn
  · rw [← e3]
    exact zt_pre_ne hij
/-- what a word leaves empty goes, from the last layer up -/
theorem zt_to94 {post : St1 → Prop} {H : List Nat → Bool} {w : Nat} {fn fl fu : Int32} {a3 a4 a5 a8 a9 a10 a11 a12 : Nat → Int32} (hly : zt_ly w ≤ 3)
    (hq : ∀ K fr ft fc a1 a2 a6 a7, zt_T zt_no zt_no K H ft a1 a2 a3 a5 a6 → zt_R K fr fc a7 → post (ft, fc, fn, fl, fu, a1, a2, a3, a4, a5, a6, a7, a8, a9, a10, a11, a12)) :
    ∀ m, m ≤ zt_ly w → ∀ K fr ft fc a1 a2 a6 a7, zt_T (fun q => q = zt_pre w m) zt_no K H ft a1 a2 a3 a5 a6 → zt_R K fr fc a7 → (∀ j, j < m → ∃ e, zt_at K (zt_pre w (j + 1)) e ∧ a8 j = nI e) → wX_takeOut_94 post (m + 1) (zt_x4 m) ft fc fn fl fu a1 a2 a3 a4 a5 a6 a7 a8 a9 a10 a11 a12 := by
  intro m
  induction m with
  | zero =>
    intro _ K fr ft fc a1 a2 a6 a7 hT hR _
    refine br_t (by decide) (hq K fr ft fc a1 a2 a6 a7 (zt_T_mono hT (fun s p _ k => ?_) (fun _ k => absurd k (fun z => z))) hR)
    cases k
  | succ m ih =>
    intro hm K fr ft fc a1 a2 a6 a7 hT hR hpath
    obtain ⟨e, he, e8⟩ := hpath m (by omega)
    obtain ⟨f1, f2, f3⟩ := zt_at_m hT he
    have hless : ∀ j, j < m → ∃ e, zt_at K (zt_pre w (j + 1)) e ∧ a8 j = nI e := fun j hj => hpath j (by omega)
    have i488 : vp_in (nI e) 488 := pk_in e 488 f1
    show wX_takeOut_94 post (m + 1 + 1) (nI m) ft fc fn fl fu a1 a2 a3 a4 a5 a6 a7 a8 a9 a10 a11 a12
    refine br_f (nI_pos (by omega)) ⟨pk_in m 3 (by omega), ?_⟩
    rw [nI_clamp (by omega), e8]
    refine nm_e ⟨i488, ?_⟩
    rw [nI_clamp (by omega), f2, f3]
    cases hH : H (zt_pre w (m + 1)) with
    | true =>
      refine br_f (by decide) (nm_r (zt_x4m m) (ih (by omega) K fr ft fc a1 a2 a6 a7 (zt_T_mono hT (fun s p _ k => ?_) (fun _ k => absurd k (fun z => z))) hR hless))
      right; left
      rw [k]
      exact hH
    | false =>
      refine br_t rfl ⟨i488, ?_⟩
      by_cases hK : K (zt_pre w (m + 1)) = []
      · refine br_t (by rw [hK]; rfl) ?_
        have drop : ∀ o, zt_own K (zt_pre w m) o → wX_takeOut_147 post (wX_takeOut_94 post (m + 1)) (nI m) (nI e) o ft fc fn fl fu a1 a2 a3 a4 a5 a6 a7 a8 a9 a10 a11 a12 := by
          intro o ho
          unfold wX_takeOut_147
          refine zt_dropEntry hT (s := zt_sl w m) (p := zt_pre w m) he (fun q k => k) hH hK hR ho ?_
          intro L fr' ft' fc' a1' a2' a6' a7' t1 t2
          refine nm_r (zt_x4m m) (ih (by omega) _ fr' ft' fc' a1' a2' a6' a7' t1 t2 ?_)
          intro j hj
          obtain ⟨e', k1, k2⟩ := hless j hj
          exact ⟨e', zt_at_up k1 (by omega), k2⟩
        refine pk_eq m 0 (fun z => drop (-1) (Or.inl ⟨by rw [z]; rfl, rfl⟩)) (fun z => ?_)
        obtain ⟨k, rfl⟩ : ∃ k, m = k + 1 := ⟨m - 1, by omega⟩
        obtain ⟨e', k1, k2⟩ := hless k (by omega)
        rw [nI_pred]
        refine ⟨pk_in k 3 (by omega), ?_⟩
        rw [nI_clamp (by omega), k2]
        exact drop _ (Or.inr ⟨e', k1, rfl⟩)
      · have hne : ¬ zt_hd (-1) (K (zt_pre w (m + 1))) = -1 := by
          obtain ⟨n, B, en⟩ := List.exists_cons_of_ne_nil hK
          have := (zt_ch_mem (hT.2.2.1 (zt_pre w (m + 1))) (n := n) (by rw [en]; simp)).1
          rw [en]
          exact zt_nm1 (by omega)
        refine br_f hne (nm_r (zt_x4m m) (ih (by omega) K fr ft fc a1 a2 a6 a7 (zt_T_mono hT (fun s p _ k => ?_) (fun _ k => absurd k (fun z => z))) hR hless))
        right; right
        rw [k]
        exact hK
section
variable {ft fc fn fl fu : Int32} {a1 a2 a3 a4 a5 a6 a7 a8 a9 a10 a11 a12 : Nat → Int32}
theorem zt_takeOut {post : St1 → Prop} {K : List Nat → zt_Ch} {H : List Nat → Bool} {fr : List Nat} {w : Nat} (hw : zt_word w) (h : zt_T zt_no zt_no K H ft a1 a2 a3 a5 a6) (hR : zt_R K fr fc a7) (hH : H (zt_pre w (zt_ly w)) = true)
    (hq : ∀ K fr ft fc a1 a2 a5 a6 a7 a8, zt_T zt_no zt_no K (zt_hup H (zt_pre w (zt_ly w)) false) ft a1 a2 a3 a5 a6 → zt_R K fr fc a7 → post (ft, fc, fn - 1, fl, 0, a1, a2, a3, a4, a5, a6, a7, a8, a9, a10, a11, a12)) :
    wpX_takeOut post (ft, fc, fn, fl, fu, a1, a2, a3, a4, a5, a6, a7, a8, a9, a10, a11, a12) (nI w) := by
  have hwl := zt_row_lt hw.2
  have hly := (zt_F1 hw).2.2
  unfold wpX_takeOut
  refine zt_layersOf (by omega) ?_
  have hin : ∀ i, i < zt_ly w → zt_sl w i ∈ zt_ss (K (zt_pre w i)) := by
    intro i hi
    by_cases k : zt_sl w i ∈ zt_ss (K (zt_pre w i))
    · exact k
    · have := (zt_absent h.1 k (zt_ly w - (i + 1))).2
      rw [show i + 1 + (zt_ly w - (i + 1)) = zt_ly w by omega, hH] at this
      cases this
  refine pk_loop (σ := Int32 × (Nat → Int32)) (fun n i s => wX_takeOut_13 post (nI w) (nI (zt_ly w)) ft fc fn fl fu n s.1 (nI i) a1 a2 a3 a4 a5 a6 a7 s.2 a9 a10 a11 a12) (fun i s => s.1 = zt_hd (-1) (K (zt_pre w i)) ∧ ∀ j, j < i → ∃ e, zt_at K (zt_pre w (j + 1)) e ∧ s.2 j = nI e) (zt_ly w) 0 (ft, a8) (Nat.zero_le _) ⟨h.2.1, fun j hj => absurd hj (by omega)⟩ ?_ ?_
  · rintro n ⟨x2, b8⟩ ⟨_, h2⟩
    dsimp only at h2 ⊢
    obtain ⟨m, hm⟩ : ∃ m, zt_ly w = m + 1 := ⟨zt_ly w - 1, by omega⟩
    obtain ⟨e, he, e8⟩ := h2 m (by omega)
    have he' : zt_at K (zt_pre w (zt_ly w)) e := by rw [hm]; exact he
    obtain ⟨f1, _, _⟩ := zt_at_m h he
    refine pk_le (zt_ly w) (zt_ly w) (fun _ => ?_) (fun z => absurd z (by omega))
    have em : nI (zt_ly w) - 1 = nI m := by rw [hm]; exact nI_pred m
    rw [em]
    refine ⟨pk_in m 3 (by omega), ?_⟩
    rw [nI_clamp (by omega), e8]
    refine ⟨pk_in e 488 f1, ?_⟩
    rw [nI_clamp (by omega)]
    have t4 : zt_T (fun q => q = zt_pre w (m + 1)) zt_no K (zt_hup H (zt_pre w (zt_ly w)) false) ft a1 a2 a3 (upd a5 e 0) a6 := zt_hupT (v := false) h he' (fun s p _ k _ => absurd k (fun z => z)) (Or.inl (by rw [hm]))
    refine nm_e (nm_e (nm_e ⟨m + 1 + 1, ?_⟩))
    exact zt_to94 hly.2 (fun K fr ft fc a1 a2 a6 a7 u1 u2 => hq K fr ft fc a1 a2 _ a6 a7 b8 u1 u2) (m + 1) (by omega) K fr ft fc a1 a2 a6 a7 t4 hR (fun j hj => h2 j (by omega))
  · rintro n i ⟨x2, b8⟩ hi ⟨h1, h2⟩ hw'
    dsimp only at h1 h2 ⊢
    have hb := zt_sl_b w i
    rw [h1]
    refine pk_le (zt_ly w) i (fun z => absurd z (by omega)) (fun _ => zt_sliceOf (by omega) hi (zt_entryFor (by omega) (zt_T_cm h _ (Or.inl (fun z => z))) ?_ ?_))
    · intro m c hm hc
      have ha : zt_at K (zt_pre w (i + 1)) (4 * m.1 + c) := ⟨_, _, m, c, rfl, hm, hc, rfl⟩
      obtain ⟨e1, e2, e3⟩ := zt_at_m h ha
      refine ⟨pk_in i 3 (by omega), ?_⟩
      rw [nI_clamp (by omega : i < 2 ^ 31)]
      refine nm_e ⟨pk_in i 3 (by omega), ?_⟩
      rw [pk_us]
      refine ⟨pk_in _ 488 e1, ?_⟩
      rw [nI_clamp (by omega), e3]
      refine nm_e (nm_r (nI_1 i) (hw' (zt_hd (-1) (K (zt_pre w (i + 1))), upd b8 i (nI (4 * m.1 + c))) ⟨rfl, fun j hj => ?_⟩))
      dsimp only
      by_cases k : j = i
      · rw [k]
        exact ⟨_, ha, pk_us⟩
      · rw [pk_un k]
        exact h2 j (by omega)
    · intro hs
      exact absurd (hin i hi) hs
theorem zt_remove {post : Int32 → St1 → Prop} {w : Nat} (h : zt_I (ft, fc, fn, fl, fu, a1, a2, a3, a4, a5, a6, a7, a8, a9, a10, a11, a12)) (hw : w < 2 ^ 31) (hq : ∀ r u, zt_I u → post r u) : wpX_remove post (ft, fc, fn, fl, fu, a1, a2, a3, a4, a5, a6, a7, a8, a9, a10, a11, a12) (nI w) := by
  have hI := h
  obtain ⟨K, H, fr, hA⟩ := h
  obtain ⟨hT, hR, hn, h40, _⟩ := hA
  unfold wpX_remove
  refine zt_isWord hw (fun hwd => br_f (by decide) ?_) (fun _ => br_t rfl (hq _ _ hI))
  refine zt_find hwd hT ?_ ?_
  · intro e e1 e2 e3
    refine br_f (nI_pos (by omega)) ⟨pk_in e 488 e1, ?_⟩
    rw [nI_clamp (by omega), e3]
    cases hH : H (zt_pre w (zt_ly w)) with
    | false => exact br_t rfl (hq _ _ hI)
    | true =>
      refine br_f (by decide) (zt_takeOut hwd hT hR hH ?_)
      intro K' fr' ft' fc' a1' a2' a5' a6' a7' a8' t1 t2
      have hl := zt_len_sub hT.1 t1.1 hH
      refine hq _ _ ⟨K', _, fr', t1, t2, ?_, by omega, Or.inl rfl⟩
      rw [hn, hl]
      exact nI_pred _
  · intro hH
    exact br_t (by decide) (hq _ _ hI)
end
end
section
/-- the path array spells a path -/
def zt_pa (a3 a8 : Nat → Int32) : List Nat → Prop
  | [] => True
  | s :: p => (∃ e, e < 488 ∧ a8 p.length = nI e ∧ a3 e = nI s) ∧ s < 100 ∧ zt_pa a3 a8 p
theorem zt_pa_fr {a3 a8 a8' : Nat → Int32} : ∀ (p : List Nat), (∀ j, j < p.length → a8' j = a8 j) → zt_pa a3 a8 p → zt_pa a3 a8' p := by
  intro p
  induction p with
  | nil => exact fun _ _ => trivial
  | cons s p ih =>
    rintro hf ⟨⟨e, e1, e2, e3⟩, h2, h3⟩
    exact ⟨⟨e, e1, by rw [hf p.length (by simp)]; exact e2, e3⟩, h2, ih (fun j hj => hf j (by simp; omega)) h3⟩
theorem zt_code1 (p : List Nat) : 1 ≤ zt_code p := by
  induction p with
  | nil => exact Nat.le_refl 1
  | cons s p ih =>
    show 1 ≤ (if s % 9 = 0 then 8 * zt_code p + s / 9 - 1 else 8 * (8 * zt_code p + s / 9 - 1) + s % 9 - 1)
    split <;> omega
section
variable {ft fc fn fl fu : Int32} {a1 a2 a3 a4 a5 a6 a7 a8 a9 a10 a11 a12 : Nat → Int32}
theorem zt_woS {post : Int32 → Prop} {x1 : Int32} {m n s : Nat} {p : List Nat} (hx : x1 = nI m) (hm : m < 3) (hp : p.length ≤ m) (h : zt_pa a3 a8 (s :: p)) (hw : wX_wordOf_4 post x1 ft fc fn fl fu a1 a2 a3 a4 a5 a6 a7 a8 a9 a10 a11 a12 n (nI (zt_code (s :: p))) (nI (p.length + 1))) : wX_wordOf_4 post x1 ft fc fn fl fu a1 a2 a3 a4 a5 a6 a7 a8 a9 a10 a11 a12 (n + 1) (nI (zt_code p)) (nI p.length) := by
  obtain ⟨⟨e, e1, e2, e3⟩, h2, _⟩ := h
  have hc := zt_code1 p
  have ed : nI s / 9 = nI (s / 9) := pk_div (a := s) (d := 9) (by omega) (by decide) (by decide)
  have er : nI s - nI (s / 9) * 9 = nI (s % 9) := by
    have := pk_rem (a := s) (d := 9) (by omega) (by decide) (by decide)
    rw [← ed]
    exact this
  have e6 : ∀ a b : Nat, 1 ≤ a → (8 * nI a + nI b) - 1 = nI (8 * a + b - 1) := by
    intro a b ha
    rw [show (8 : Int32) = nI 8 from rfl, pk_mul, nI_add, show (1 : Int32) = nI 1 from rfl, pk_sub (by omega)]
  refine pk_lt m p.length (fun z => absurd z (by omega)) (fun _ => ⟨pk_in p.length 3 (by omega), ?_⟩) hx
  rw [nI_clamp (by omega), e2]
  refine ⟨pk_in e 488 e1, ?_⟩
  rw [nI_clamp (by omega), e3]
  refine nm_e ⟨by decide, ?_⟩
  rw [ed, er, e6 _ _ hc]
  refine nm_e ⟨by decide, ?_⟩
  have hcode : zt_code (s :: p) = if s % 9 = 0 then 8 * zt_code p + s / 9 - 1 else 8 * (8 * zt_code p + s / 9 - 1) + s % 9 - 1 := rfl
  refine pk_le (s % 9) 0 (fun z => nm_r (nI_1 _) ?_) (fun z => ⟨by decide, nm_r (e6 _ _ (by omega)) (nm_r (nI_1 _) ?_)⟩)
  · rw [hcode, if_pos (by omega)] at hw
    exact hw
  · rw [hcode, if_neg (by omega)] at hw
    exact hw
theorem zt_wordOf {post : Int32 → Prop} {m : Nat} {q : List Nat} (hq : q.length = m + 1) (hm : m < 3) (h : zt_pa a3 a8 q) (hp : post (nI (zt_code q))) : wpX_wordOf post (ft, fc, fn, fl, fu, a1, a2, a3, a4, a5, a6, a7, a8, a9, a10, a11, a12) (nI m) := by
  have hend : ∀ n, wX_wordOf_4 post (nI m) ft fc fn fl fu a1 a2 a3 a4 a5 a6 a7 a8 a9 a10 a11 a12 (n + 1) (nI (zt_code q)) (nI (m + 1)) := fun n => pk_lt m (m + 1) (fun _ => hp) (fun z => absurd z (by omega))
  match q, hq, h with
  | [a], hq, h =>
    have e : m = 0 := by simpa using hq.symm
    subst e
    exact ⟨2, zt_woS (p := []) rfl (by omega) (by simp) h (hend 0)⟩
  | [b, a], hq, h =>
    have e : m = 1 := by simpa using hq.symm
    subst e
    exact ⟨3, zt_woS (p := []) (s := a) rfl (by omega) (by simp) h.2.2 (zt_woS (p := [a]) rfl (by omega) (by simp) h (hend 0))⟩
  | [c, b, a], hq, h =>
    have e : m = 2 := by simpa using hq.symm
    subst e
    exact ⟨4, zt_woS (p := []) (s := a) rfl (by omega) (by simp) h.2.2.2.2 (zt_woS (p := [a]) (s := b) rfl (by omega) (by simp) h.2.2 (zt_woS (p := [b, a]) rfl (by omega) (by simp) h (hend 0)))⟩
  | _ :: _ :: _ :: _ :: _, hq, _ =>
    simp at hq
    omega
theorem zt_l197 {post : St1 → Prop} {J : Int32 → Int32 → Int32 → (Nat → Int32) → (Nat → Int32) → (Nat → Int32) → (Nat → Int32) → (Nat → Int32) → (Nat → Int32) → (Nat → Int32) → (Nat → Int32) → (Nat → Int32) → (Nat → Int32) → (Nat → Int32) → (Nat → Int32) → Prop} {m k e : Nat} (he : e < 488)
    (h1 : a6 e = -1 → J (nI m) (nI (k + 1)) fl a1 a2 a3 a4 a5 a6 a7 a8 a9 a10 a11 a12) (h2 : ¬ a6 e = -1 → m + 1 < 3 ∧ J (nI (m + 1)) (nI (k + 1)) fl a1 a2 a3 a4 a5 a6 a7 a8 a9 a10 (upd a11 (m + 1) (a6 e)) (upd a12 (m + 1) 0)) : wX_list_197 post J (nI m) (nI k) (nI e) ft fc fn fl fu a1 a2 a3 a4 a5 a6 a7 a8 a9 a10 a11 a12 := by
  unfold wX_list_197
  rw [nI_clamp (by omega)]
  refine ⟨pk_in e 488 he, br_c (fun z => nm_r (nI_1 k) (h1 z)) (fun z => nm_r (nI_1 m) ⟨pk_in e 488 he, pk_in (m + 1) 3 (h2 z).1, ?_⟩)⟩
  have := (h2 z).1
  rw [nI_clamp (by omega)]
  exact nm_e ⟨pk_in (m + 1) 3 (h2 z).1, nm_e (nm_r (nI_1 k) (h2 z).2)⟩
end
/-- the listing's loop, for some fuel -/
def zt_W (post : St1 → Prop) (ft fc fn fu : Int32) (a1 a2 a3 a4 a5 a6 a7 : Nat → Int32) (x1 x2 fl : Int32) (a8 a9 a10 a11 a12 : Nat → Int32) : Prop := ∃ n, wX_list_51 post ft fc fn fu n x1 x2 fl a1 a2 a3 a4 a5 a6 a7 a8 a9 a10 a11 a12
section
variable {ft fc fn fl fu : Int32} {a1 a2 a3 a4 a5 a6 a7 a8 a9 a10 a11 a12 : Nat → Int32}
variable {post : St1 → Prop}
theorem zt_sE {m k : Nat} (hm : m < 3) (hk : k < 400) (h11 : a11 m = -1) (h : zt_W post ft fc fn fu a1 a2 a3 a4 a5 a6 a7 (zt_x4 m) (nI (k + 1)) fl a8 a9 a10 a11 a12) : zt_W post ft fc fn fu a1 a2 a3 a4 a5 a6 a7 (nI m) (nI k) fl a8 a9 a10 a11 a12 := by
  obtain ⟨n, hn⟩ := h
  refine ⟨n + 1, pk_le 400 k (fun z => absurd z (by omega)) (fun _ => br_f (nI_pos (by omega)) ⟨pk_in m 3 hm, ?_⟩)⟩
  rw [nI_clamp (by omega), h11]
  exact nm_e (br_t rfl (nm_r (zt_x4m m) (nm_r (nI_1 k) hn)))
theorem zt_sN {m k b : Nat} {cs : List Nat} (hm : m < 3) (hk : k < 400) (hb : b < 122) (ho : zt_ord (a1 b) cs) (h11 : a11 m = nI b) (h12 : a12 m = nI cs.length) (h : zt_W post ft fc fn fu a1 a2 a3 a4 a5 a6 a7 (nI m) (nI (k + 1)) fl a8 a9 a10 (upd a11 m (a2 b)) (upd a12 m 0)) : zt_W post ft fc fn fu a1 a2 a3 a4 a5 a6 a7 (nI m) (nI k) fl a8 a9 a10 a11 a12 := by
  obtain ⟨n, hn⟩ := h
  refine ⟨n + 1, pk_le 400 k (fun z => absurd z (by omega)) (fun _ => br_f (nI_pos (by omega)) ⟨pk_in m 3 hm, ?_⟩)⟩
  rw [nI_clamp (by omega : m < 2 ^ 31), h11]
  refine nm_e (br_f (zt_nm1 (by omega)) ⟨pk_in m 3 hm, zt_sizeN hb ho ?_⟩)
  rw [nI_clamp (by omega : b < 2 ^ 31)]
  exact br_t h12 ⟨pk_in b 122 hb, pk_in m 3 hm, nm_e ⟨pk_in m 3 hm, nm_e (nm_r (nI_1 k) hn)⟩⟩
theorem zt_sH {m k b i l : Nat} {cs q : List Nat} {e : Nat} {v : Bool} (hm : m < 3) (hk : k < 400) (hb : b < 122) (ho : zt_ord (a1 b) cs) (h11 : a11 m = nI b) (h12 : a12 m = nI i) (hi : i < cs.length) (he : e = 4 * b + cs.getD i 0) (h488 : e < 488) (hv : a5 e = zt_b v)
    (hq : q.length = m + 1) (hpa : zt_pa a3 (upd a8 m (nI e)) q) (hfl : fl = nI l) (hl : v = true → l < 40) (h6 : ¬ a6 e = -1 → m + 1 < 3)
    (hW : ∀ fl' a9' a10', (v = false → fl' = fl ∧ a9' = a9) → (v = true → fl' = nI (l + 1) ∧ a9' = upd a9 l (nI (zt_code q))) →
      (a6 e = -1 → zt_W post ft fc fn fu a1 a2 a3 a4 a5 a6 a7 (nI m) (nI (k + 1)) fl' (upd a8 m (nI e)) a9' a10' a11 (upd a12 m (nI (i + 1)))) ∧
      (¬ a6 e = -1 → zt_W post ft fc fn fu a1 a2 a3 a4 a5 a6 a7 (nI (m + 1)) (nI (k + 1)) fl' (upd a8 m (nI e)) a9' a10' (upd a11 (m + 1) (a6 e)) (upd (upd a12 m (nI (i + 1))) (m + 1) 0))) :
    zt_W post ft fc fn fu a1 a2 a3 a4 a5 a6 a7 (nI m) (nI k) fl a8 a9 a10 a11 a12 := by
  have hcl := (zt_ord_len ho).2.1
  have main : ∀ n, ((∀ fl' a9' a10', (v = false → fl' = fl ∧ a9' = a9 ∧ a10' = a10) → (v = true → fl' = nI (l + 1) ∧ a9' = upd a9 l (nI (zt_code q)) ∧ a10' = upd a10 l (a4 e)) → wX_list_197 post (wX_list_51 post ft fc fn fu n) (nI m) (nI k) (nI e) ft fc fn fl' fu a1 a2 a3 a4 a5 a6 a7 (upd a8 m (nI e)) a9' a10' a11 (upd a12 m (nI (i + 1))))) → wX_list_51 post ft fc fn fu (n + 1) (nI m) (nI k) fl a1 a2 a3 a4 a5 a6 a7 a8 a9 a10 a11 a12 := by
    intro n h
    refine pk_le 400 k (fun z => absurd z (by omega)) (fun _ => br_f (nI_pos (by omega)) ⟨pk_in m 3 hm, ?_⟩)
    rw [nI_clamp (by omega : m < 2 ^ 31), h11]
    refine nm_e (br_f (zt_nm1 (by omega)) ⟨pk_in m 3 hm, zt_sizeN hb ho ?_⟩)
    rw [h12]
    refine pk_eq i cs.length (fun z => absurd z (by omega)) (fun _ => ⟨pk_in m 3 hm, zt_entN hb ho hi ?_⟩)
    rw [← he, nI_1]
    refine ⟨pk_in m 3 hm, pk_in m 3 hm, nm_e ⟨pk_in m 3 hm, nm_e ⟨pk_in e 488 h488, ?_⟩⟩⟩
    rw [nI_clamp (by omega : e < 2 ^ 31), hv]
    cases v with
    | false => exact br_t rfl (h fl a9 a10 (fun _ => ⟨rfl, rfl, rfl⟩) (fun z => absurd z (by decide)))
    | true =>
      have hl' := hl rfl
      refine br_f (by decide) (zt_wordOf hq hm hpa ?_)
      rw [hfl]
      refine ⟨pk_in l 40 hl', ?_⟩
      rw [nI_clamp (by omega : l < 2 ^ 31)]
      refine nm_e ⟨pk_in e 488 h488, pk_in l 40 hl', nm_e (nm_r (nI_1 l) ?_)⟩
      exact h _ _ _ (fun z => absurd z (by decide)) (fun _ => ⟨rfl, rfl, rfl⟩)
  obtain ⟨fl', a9', a10', f1, f2⟩ : ∃ fl' a9' a10', (v = false → fl' = fl ∧ a9' = a9 ∧ a10' = a10) ∧ (v = true → fl' = nI (l + 1) ∧ a9' = upd a9 l (nI (zt_code q)) ∧ a10' = upd a10 l (a4 e)) := by
    cases v with
    | false => exact ⟨fl, a9, a10, fun _ => ⟨rfl, rfl, rfl⟩, fun z => absurd z (by decide)⟩
    | true => exact ⟨_, _, _, fun z => absurd z (by decide), fun _ => ⟨rfl, rfl, rfl⟩⟩
  obtain ⟨w1, w2⟩ := hW fl' a9' a10' (fun z => ⟨(f1 z).1, (f1 z).2.1⟩) (fun z => ⟨(f2 z).1, (f2 z).2.1⟩)
  have uniq : ∀ fl'' a9'' a10'', (v = false → fl'' = fl ∧ a9'' = a9 ∧ a10'' = a10) → (v = true → fl'' = nI (l + 1) ∧ a9'' = upd a9 l (nI (zt_code q)) ∧ a10'' = upd a10 l (a4 e)) → fl'' = fl' ∧ a9'' = a9' ∧ a10'' = a10' := by
    intro fl'' a9'' a10'' k1 k2
    cases v with
    | false =>
      obtain ⟨x1, x2, x3⟩ := k1 rfl
      obtain ⟨y1, y2, y3⟩ := f1 rfl
      exact ⟨x1.trans y1.symm, x2.trans y2.symm, x3.trans y3.symm⟩
    | true =>
      obtain ⟨x1, x2, x3⟩ := k2 rfl
      obtain ⟨y1, y2, y3⟩ := f2 rfl
      exact ⟨x1.trans y1.symm, x2.trans y2.symm, x3.trans y3.symm⟩
  by_cases c : a6 e = -1
  · obtain ⟨n, hn⟩ := w1 c
    refine ⟨n + 1, main n ?_⟩
    intro fl'' a9'' a10'' k1 k2
    obtain ⟨rfl, rfl, rfl⟩ := uniq fl'' a9'' a10'' k1 k2
    exact zt_l197 h488 (fun _ => hn) (fun z => absurd c z)
  · obtain ⟨n, hn⟩ := w2 c
    refine ⟨n + 1, main n ?_⟩
    intro fl'' a9'' a10'' k1 k2
    obtain ⟨rfl, rfl, rfl⟩ := uniq fl'' a9'' a10'' k1 k2
    exact zt_l197 h488 (fun z => absurd z c) (fun _ => ⟨h6 c, hn⟩)
end
end
section
def zt_ce (sub : Nat → Nat) : List (Nat × Nat) → Nat
  | [] => 0
  | e :: r => 1 + sub e.2 + zt_ce sub r
def zt_cn (sub : Nat → Nat) : zt_Ch → Nat
  | [] => 1
  | n :: r => zt_ce sub n.2 + 1 + zt_cn sub r
/-- the steps that the listing takes in a chain -/
def zt_cost (K : List Nat → zt_Ch) : Nat → List Nat → Nat
  | 0, _ => 0
  | d + 1, p => if K p = [] then 0 else zt_cn (fun s => zt_cost K d (s :: p)) (K p)
theorem zt_cost_0 {K : List Nat → zt_Ch} {d : Nat} {p : List Nat} (h : K p = []) : zt_cost K d p = 0 := by
  cases d with
  | zero => rfl
  | succ d =>
    show (if K p = [] then 0 else _) = 0
    rw [if_pos h]
theorem zt_wd_0 {K : List Nat → zt_Ch} {H : List Nat → Bool} {d : Nat} {p : List Nat} (h : K p = []) : zt_wd K H d p = [] := by
  cases d with
  | zero => rfl
  | succ d =>
    show (zt_ss (K p)).flatMap _ = []
    rw [h]
    rfl
theorem zt_ce_le {sub : Nat → Nat} {f : Nat → List (List Nat)} {c : Nat} (es : List (Nat × Nat)) (h : ∀ e, e ∈ es → sub e.2 ≤ c * (f e.2).length ∧ 1 ≤ (f e.2).length) : zt_ce sub es ≤ (c + 1) * ((es.map Prod.snd).flatMap f).length ∧ es.length ≤ ((es.map Prod.snd).flatMap f).length := by
  induction es with
  | nil => exact ⟨Nat.zero_le _, Nat.zero_le _⟩
  | cons e es ih =>
    obtain ⟨i1, i2⟩ := ih (fun e' he' => h e' (List.mem_cons_of_mem _ he'))
    obtain ⟨h1, h2⟩ := h e (by simp)
    rw [List.map_cons, List.flatMap_cons, List.length_append, List.length_cons]
    show 1 + sub e.2 + zt_ce sub es ≤ _ ∧ _
    rw [Nat.mul_add, Nat.succ_mul, Nat.succ_mul]
    rw [Nat.succ_mul] at i1
    omega
theorem zt_cn_le {sub : Nat → Nat} {f : Nat → List (List Nat)} {c : Nat} (B : zt_Ch) (hne : ∀ n, n ∈ B → n.2 ≠ []) (h : ∀ s, s ∈ zt_ss B → sub s ≤ c * (f s).length ∧ 1 ≤ (f s).length) : zt_cn sub B ≤ 1 + (c + 2) * ((zt_ss B).flatMap f).length ∧ B.length ≤ ((zt_ss B).flatMap f).length := by
  induction B with
  | nil => exact ⟨Nat.le_add_right _ _, Nat.zero_le _⟩
  | cons n B ih =>
    obtain ⟨i1, i2⟩ := ih (fun n' hn' => hne n' (List.mem_cons_of_mem _ hn')) (fun s hs => h s (by rw [zt_ss_cons]; exact List.mem_append.mpr (Or.inr hs)))
    obtain ⟨j1, j2⟩ := zt_ce_le (sub := sub) (f := f) (c := c) n.2 (fun e he => h e.2 (by rw [zt_ss_cons]; exact List.mem_append.mpr (Or.inl (List.mem_map.mpr ⟨e, he, rfl⟩))))
    have hn := hne n (by simp)
    have hn1 : 1 ≤ n.2.length := by
      have : n.2.length ≠ 0 := fun k => hn (List.length_eq_zero_iff.mp k)
      omega
    rw [zt_ss_cons, List.flatMap_append, List.length_append]
    show zt_ce sub n.2 + 1 + zt_cn sub B ≤ _ ∧ B.length + 1 ≤ _
    rw [Nat.mul_add]
    rw [show (c + 2) * ((n.2.map Prod.snd).flatMap f).length = (c + 1) * ((n.2.map Prod.snd).flatMap f).length + ((n.2.map Prod.snd).flatMap f).length from Nat.succ_mul _ _]
    omega
theorem zt_cost_le {K : List Nat → zt_Ch} {H : List Nat → Bool} (h : zt_G zt_no zt_no K H) : ∀ d p, p.length + d = 3 → K p ≠ [] → zt_cost K d p ≤ 3 * d * (zt_wd K H d p).length ∧ 1 ≤ (zt_wd K H d p).length := by
  intro d
  induction d with
  | zero =>
    intro p hp hK
    exact absurd (h.2.2.2.2.1 p (by omega)) hK
  | succ d ih =>
    intro p hp hK
    have hne : ∀ n, n ∈ K p → n.2 ≠ [] := by
      intro n hn
      rcases h.2.1 p n hn with k | k
      · exact k
      · exact absurd k (fun z => z)
    have key : ∀ s, s ∈ zt_ss (K p) → zt_cost K d (s :: p) ≤ 3 * d * (zt_wf H (zt_wd K H d) p s).length ∧ 1 ≤ (zt_wf H (zt_wd K H d) p s).length := by
      intro s hs
      obtain ⟨_, _, k3, _⟩ := h.2.2.1 p s hs
      have hlen : (zt_wf H (zt_wd K H d) p s).length = (if H (s :: p) = true then 1 else 0) + (zt_wd K H d (s :: p)).length := by
        unfold zt_wf
        rw [List.length_append]
        split <;> rfl
      rw [hlen]
      by_cases hK2 : K (s :: p) = []
      · rw [zt_cost_0 hK2]
        refine ⟨Nat.zero_le _, ?_⟩
        rcases k3 with k | k | k
        · exact absurd k (fun z => z)
        · rw [if_pos k]
          omega
        · exact absurd hK2 k
      · obtain ⟨i1, i2⟩ := ih (s :: p) (by simp; omega) hK2
        refine ⟨Nat.le_trans i1 (Nat.mul_le_mul_left _ (by omega)), by omega⟩
    obtain ⟨c1, c2⟩ := zt_cn_le (sub := fun s => zt_cost K d (s :: p)) (f := zt_wf H (zt_wd K H d) p) (c := 3 * d) (K p) hne key
    have hB : (K p).length ≠ 0 := fun k => hK (List.length_eq_zero_iff.mp k)
    have e1 : zt_cost K (d + 1) p = zt_cn (fun s => zt_cost K d (s :: p)) (K p) := by
      show (if K p = [] then 0 else _) = _
      rw [if_neg hK]
    have e2 : zt_wd K H (d + 1) p = (zt_ss (K p)).flatMap (zt_wf H (zt_wd K H d) p) := rfl
    rw [e1, e2, show 3 * (d + 1) = 3 * d + 2 + 1 by omega, Nat.succ_mul (3 * d + 2)]
    omega
def zt_ls (acc : List (List Nat)) (fl : Int32) (a9 : Nat → Int32) : Prop := fl = nI acc.length ∧ ∀ i, i < acc.length → a9 i = nI (zt_code (acc.getD i []))
theorem zt_ls_add {acc : List (List Nat)} {fl : Int32} {a9 : Nat → Int32} {q : List Nat} (h : zt_ls acc fl a9) : zt_ls (acc ++ [q]) (nI (acc.length + 1)) (upd a9 acc.length (nI (zt_code q))) := by
  refine ⟨by rw [List.length_append]; rfl, fun i hi => ?_⟩
  rw [List.length_append, List.length_singleton] at hi
  by_cases k : i = acc.length
  · rw [k, pk_us]
    simp
  · rw [pk_un k, h.2 i (by omega)]
    simp only [List.getD_eq_getElem?_getD]
    rw [List.getElem?_append_left (by omega)]
def zt_fr (m : Nat) (a8 a11 a12 a8' a11' a12' : Nat → Int32) : Prop := ∀ j, j < m → a8' j = a8 j ∧ a11' j = a11 j ∧ a12' j = a12 j
theorem zt_fr_t {m m' : Nat} {a8 a11 a12 b8 b11 b12 c8 c11 c12 : Nat → Int32} (h : zt_fr m a8 a11 a12 b8 b11 b12) (h' : zt_fr m' b8 b11 b12 c8 c11 c12) (hm : m ≤ m') : zt_fr m a8 a11 a12 c8 c11 c12 := by
  intro j hj
  obtain ⟨x1, x2, x3⟩ := h j hj
  obtain ⟨y1, y2, y3⟩ := h' j (by omega)
  exact ⟨y1.trans x1, y2.trans x2, y3.trans x3⟩
section
variable {ft fc fn fu : Int32} {a1 a2 a3 a4 a5 a6 a7 : Nat → Int32} {post : St1 → Prop} {K : List Nat → zt_Ch} {H : List Nat → Bool}
theorem zt_lD (h : zt_T zt_no zt_no K H ft a1 a2 a3 a5 a6) : ∀ d p, p.length + d = 3 → K p ≠ [] → ∀ k acc fl a8 a9 a10 a11 a12, zt_pa a3 a8 p → a11 p.length = zt_hd (-1) (K p) → a12 p.length = 0 → zt_ls acc fl a9 → acc.length + (zt_wd K H d p).length ≤ 40 → k + zt_cost K d p ≤ 400 →
    (∀ fl' a8' a9' a10' a11' a12', zt_ls (acc ++ zt_wd K H d p) fl' a9' → zt_fr p.length a8 a11 a12 a8' a11' a12' → zt_W post ft fc fn fu a1 a2 a3 a4 a5 a6 a7 (zt_x4 p.length) (nI (k + zt_cost K d p)) fl' a8' a9' a10' a11' a12') →
    zt_W post ft fc fn fu a1 a2 a3 a4 a5 a6 a7 (nI p.length) (nI k) fl a8 a9 a10 a11 a12 := by
  intro d
  induction d with
  | zero =>
    intro p hp hK
    exact absurd (h.1.2.2.2.2.1 p (by omega)) hK
  | succ d ih =>
    intro p hp hK
    have hm : p.length < 3 := by omega
    have entries : ∀ n, n ∈ K p → ∀ e2 e1, n.2 = e1 ++ e2 → ∀ k acc fl a8 a9 a10 a11 a12, zt_pa a3 a8 p → a11 p.length = nI n.1 → a12 p.length = nI e1.length → zt_ls acc fl a9 → acc.length + ((e2.map Prod.snd).flatMap (zt_wf H (zt_wd K H d) p)).length ≤ 40 → k + zt_ce (fun s => zt_cost K d (s :: p)) e2 < 400 →
        (∀ fl' a8' a9' a10' a11' a12', zt_ls (acc ++ (e2.map Prod.snd).flatMap (zt_wf H (zt_wd K H d) p)) fl' a9' → zt_fr p.length a8 a11 a12 a8' a11' a12' → a11' p.length = nI n.1 → a12' p.length = nI n.2.length → zt_W post ft fc fn fu a1 a2 a3 a4 a5 a6 a7 (nI p.length) (nI (k + zt_ce (fun s => zt_cost K d (s :: p)) e2)) fl' a8' a9' a10' a11' a12') →
        zt_W post ft fc fn fu a1 a2 a3 a4 a5 a6 a7 (nI p.length) (nI k) fl a8 a9 a10 a11 a12 := by
      intro n hn
      obtain ⟨n1, n2⟩ := zt_ch_mem (h.2.2.1 p) hn
      intro e2
      induction e2 with
      | nil =>
        intro e1 ee k acc fl a8 a9 a10 a11 a12 hpa h11 h12 hls _ _ hc
        rw [List.append_nil] at ee
        refine hc fl a8 a9 a10 a11 a12 ?_ (fun j _ => ⟨rfl, rfl, rfl⟩) h11 (by rw [ee]; exact h12)
        simpa using hls
      | cons x e2 ih2 =>
        obtain ⟨c, s⟩ := x
        intro e1 ee k acc fl a8 a9 a10 a11 a12 hpa h11 h12 hls h40 h400 hc
        have hcs : (c, s) ∈ n.2 := by rw [ee]; simp
        obtain ⟨v1, v2, v3⟩ := h.2.2.2 p n c s hn hcs
        have c4 := (zt_c4 h.2 hn hcs).2
        have hss : s ∈ zt_ss (K p) := zt_ss_mem.mpr ⟨n, c, hn, hcs⟩
        have hs80 := (h.1.2.2.1 p s hss).2.1
        have hcost : zt_ce (fun s => zt_cost K d (s :: p)) ((c, s) :: e2) = 1 + zt_cost K d (s :: p) + zt_ce (fun s => zt_cost K d (s :: p)) e2 := rfl
        have hwords : (((c, s) :: e2).map Prod.snd).flatMap (zt_wf H (zt_wd K H d) p) = ((if H (s :: p) = true then [s :: p] else []) ++ zt_wd K H d (s :: p)) ++ (e2.map Prod.snd).flatMap (zt_wf H (zt_wd K H d) p) := by
          rw [List.map_cons, List.flatMap_cons]
          rfl
        rw [hcost] at h400 hc
        rw [hwords] at h40 hc
        rw [List.length_append, List.length_append] at h40
        have hpa' : zt_pa a3 (upd a8 p.length (nI (4 * n.1 + c))) (s :: p) := ⟨⟨4 * n.1 + c, by omega, pk_us, v1⟩, by omega, zt_pa_fr p (fun j hj => pk_un (by omega)) hpa⟩
        refine zt_sH (b := n.1) (i := e1.length) (l := acc.length) (cs := n.2.map Prod.fst) (q := s :: p) (e := 4 * n.1 + c) (v := H (s :: p)) hm (by omega) n1 n2 h11 h12 ?_ ?_ (by omega) v2 (by simp) hpa' hls.1 ?_ ?_ ?_
        · rw [List.length_map, ee]
          simp
        · rw [ee]
          simp
        · intro hv
          rw [if_pos hv] at h40
          simp only [List.length_singleton] at h40
          omega
        · intro k6
          rw [v3] at k6
          have : K (s :: p) ≠ [] := by
            intro k
            rw [k] at k6
            exact k6 rfl
          have := (zt_K_inn h.1 _ this).2
          simp only [List.length_cons] at this
          omega
        · intro fl' a9' a10' f1 f2
          have hls' : zt_ls (acc ++ (if H (s :: p) = true then [s :: p] else [])) fl' a9' := by
            cases hv : H (s :: p) with
            | false =>
              obtain ⟨g1, g2⟩ := f1 hv
              rw [g1, g2]
              simpa using hls
            | true =>
              obtain ⟨g1, g2⟩ := f2 hv
              rw [g1, g2]
              exact zt_ls_add hls
          have hlen' : (acc ++ (if H (s :: p) = true then [s :: p] else [])).length = acc.length + (if H (s :: p) = true then [s :: p] else []).length := List.length_append
          rw [v3]
          constructor
          · intro k6
            have hK2 : K (s :: p) = [] := by
              by_cases k : K (s :: p) = []
              · exact k
              · obtain ⟨n', B, en⟩ := List.exists_cons_of_ne_nil k
                have := (zt_ch_mem (h.2.2.1 (s :: p)) (n := n') (by rw [en]; simp)).1
                rw [en] at k6
                exact absurd k6 (zt_nm1 (by omega))
            rw [zt_wd_0 hK2, List.append_nil] at hc
            rw [zt_wd_0 hK2] at h40
            rw [zt_cost_0 hK2] at hc h400
            refine ih2 (e1 ++ [(c, s)]) (by rw [ee]; simp) (k + 1) _ fl' (upd a8 p.length (nI (4 * n.1 + c))) a9' a10' a11 (upd a12 p.length (nI (e1.length + 1))) hpa'.2.2 h11 (by rw [pk_us]; simp) hls' (by rw [hlen']; simp only [List.length_nil] at h40; omega) (by omega) ?_
            intro fl'' a8'' a9'' a10'' a11'' a12'' g1 g2 g3 g4
            rw [show k + 1 + zt_ce (fun s => zt_cost K d (s :: p)) e2 = k + (1 + 0 + zt_ce (fun s => zt_cost K d (s :: p)) e2) by omega]
            refine hc fl'' a8'' a9'' a10'' a11'' a12'' (by rw [← List.append_assoc]; exact g1) (zt_fr_t (m' := p.length) ?_ g2 (Nat.le_refl _)) g3 g4
            intro j hj
            exact ⟨pk_un (by omega), rfl, pk_un (by omega)⟩
          · intro k6
            have hK2 : K (s :: p) ≠ [] := by
              intro k
              rw [k] at k6
              exact k6 rfl
            have hl1 : (s :: p).length = p.length + 1 := List.length_cons
            refine ih (s :: p) (by omega) hK2 (k + 1) _ fl' (upd a8 p.length (nI (4 * n.1 + c))) a9' a10' (upd a11 (p.length + 1) (zt_hd (-1) (K (s :: p)))) (upd (upd a12 p.length (nI (e1.length + 1))) (p.length + 1) 0) hpa' (by rw [hl1, pk_us]) (by rw [hl1, pk_us]) hls' (by rw [hlen']; omega) (by omega) ?_
            intro fl'' a8'' a9'' a10'' a11'' a12'' g1 g2
            rw [hl1] at g2 ⊢
            show zt_W post ft fc fn fu a1 a2 a3 a4 a5 a6 a7 (nI p.length) _ _ _ _ _ _ _
            obtain ⟨q1, q2, q3⟩ := g2 p.length (by omega)
            refine ih2 (e1 ++ [(c, s)]) (by rw [ee]; simp) (k + 1 + zt_cost K d (s :: p)) _ fl'' a8'' a9'' a10'' a11'' a12'' ?_ ?_ ?_ g1 ?_ (by omega) ?_
            · exact zt_pa_fr p (fun j hj => (g2 j (by omega)).1) hpa'.2.2
            · rw [q2, pk_un (by omega)]
              exact h11
            · rw [q3, pk_un (by omega), pk_us]
              simp
            · rw [List.length_append, hlen']
              omega
            · intro fl3 a83 a93 a103 a113 a123 g3 g4 g5 g6
              rw [show k + 1 + zt_cost K d (s :: p) + zt_ce (fun s => zt_cost K d (s :: p)) e2 = k + (1 + zt_cost K d (s :: p) + zt_ce (fun s => zt_cost K d (s :: p)) e2) by omega]
              refine hc fl3 a83 a93 a103 a113 a123 ?_ (zt_fr_t (m' := p.length) (zt_fr_t (m' := p.length + 1) ?_ g2 (by omega)) g4 (Nat.le_refl _)) g5 g6
              · simpa only [List.append_assoc] using g3
              · exact fun j hj => ⟨pk_un (by omega), pk_un (by omega), by rw [pk_un (by omega), pk_un (by omega)]⟩
    have nodes : ∀ B A, K p = A ++ B → ∀ k acc fl a8 a9 a10 a11 a12, zt_pa a3 a8 p → a11 p.length = zt_hd (-1) B → a12 p.length = 0 → zt_ls acc fl a9 → acc.length + ((zt_ss B).flatMap (zt_wf H (zt_wd K H d) p)).length ≤ 40 → k + zt_cn (fun s => zt_cost K d (s :: p)) B ≤ 400 →
        (∀ fl' a8' a9' a10' a11' a12', zt_ls (acc ++ (zt_ss B).flatMap (zt_wf H (zt_wd K H d) p)) fl' a9' → zt_fr p.length a8 a11 a12 a8' a11' a12' → zt_W post ft fc fn fu a1 a2 a3 a4 a5 a6 a7 (zt_x4 p.length) (nI (k + zt_cn (fun s => zt_cost K d (s :: p)) B)) fl' a8' a9' a10' a11' a12') →
        zt_W post ft fc fn fu a1 a2 a3 a4 a5 a6 a7 (nI p.length) (nI k) fl a8 a9 a10 a11 a12 := by
      intro B
      induction B with
      | nil =>
        intro A eA k acc fl a8 a9 a10 a11 a12 hpa h11 h12 hls _ h400 hc
        have h400' : k + 1 ≤ 400 := h400
        refine zt_sE hm (by omega) h11 (hc fl a8 a9 a10 a11 a12 ?_ (fun j _ => ⟨rfl, rfl, rfl⟩))
        simpa [zt_ss] using hls
      | cons n B ih3 =>
        intro A eA k acc fl a8 a9 a10 a11 a12 hpa h11 h12 hls h40 h400 hc
        have hn : n ∈ K p := by rw [eA]; simp
        obtain ⟨n1, n2⟩ := zt_ch_mem (h.2.2.1 p) hn
        have ha2 : a2 n.1 = zt_hd (-1) B := by
          have := h.2.2.1 p
          rw [eA, zt_ch_app] at this
          exact this.2.2.2.1
        have hcost : zt_cn (fun s => zt_cost K d (s :: p)) (n :: B) = zt_ce (fun s => zt_cost K d (s :: p)) n.2 + 1 + zt_cn (fun s => zt_cost K d (s :: p)) B := rfl
        rw [hcost] at h400 hc
        rw [zt_ss_cons, List.flatMap_append] at h40 hc
        rw [List.length_append] at h40
        refine entries n hn n.2 [] rfl k acc fl a8 a9 a10 a11 a12 hpa h11 h12 hls (by omega) (by omega) ?_
        intro fl' a8' a9' a10' a11' a12' g1 g2 g3 g4
        refine zt_sN (b := n.1) (cs := n.2.map Prod.fst) hm (by omega) n1 n2 g3 (by rw [List.length_map]; exact g4) ?_
        rw [ha2]
        refine ih3 (A ++ [n]) (by rw [eA]; simp) (k + zt_ce (fun s => zt_cost K d (s :: p)) n.2 + 1) _ fl' a8' a9' a10' _ _ (zt_pa_fr p (fun j hj => (g2 j hj).1) hpa) pk_us pk_us g1 (by rw [List.length_append]; omega) (by omega) ?_
        intro fl3 a83 a93 a103 a113 a123 g5 g6
        rw [show k + zt_ce (fun s => zt_cost K d (s :: p)) n.2 + 1 + zt_cn (fun s => zt_cost K d (s :: p)) B = k + (zt_ce (fun s => zt_cost K d (s :: p)) n.2 + 1 + zt_cn (fun s => zt_cost K d (s :: p)) B) by omega]
        refine hc fl3 a83 a93 a103 a113 a123 (by rw [← List.append_assoc]; exact g5) (zt_fr_t (m' := p.length) (zt_fr_t (m' := p.length) g2 ?_ (Nat.le_refl _)) g6 (Nat.le_refl _))
        exact fun j hj => ⟨rfl, pk_un (by omega), pk_un (by omega)⟩
    intro k acc fl a8 a9 a10 a11 a12 hpa h11 h12 hls h40 h400 hc
    have e1 : zt_cost K (d + 1) p = zt_cn (fun s => zt_cost K d (s :: p)) (K p) := by
      show (if K p = [] then 0 else _) = _
      rw [if_neg hK]
    rw [e1] at h400 hc
    exact nodes (K p) [] rfl k acc fl a8 a9 a10 a11 a12 hpa h11 h12 hls h40 h400 hc
end
/-- a state whose listing is up to date -/
def zt_B (K : List Nat → zt_Ch) (H : List Nat → Bool) (fr : List Nat) (u : St1) : Prop := match u with
  | (ft, fc, fn, fl, fu, a1, a2, a3, a4, a5, a6, a7, a8, a9, a10, a11, a12) => zt_T zt_no zt_no K H ft a1 a2 a3 a5 a6 ∧ zt_R K fr fc a7 ∧ fn = nI (zt_wds K H).length ∧ (zt_wds K H).length ≤ 40 ∧ ¬ fu = 0 ∧ zt_Ls K H fl a9
section
variable {ft fc fn fl fu : Int32} {a1 a2 a3 a4 a5 a6 a7 a8 a9 a10 a11 a12 : Nat → Int32}
theorem zt_list {post : St1 → Prop} {K : List Nat → zt_Ch} {H : List Nat → Bool} {fr : List Nat} (h : zt_A K H fr (ft, fc, fn, fl, fu, a1, a2, a3, a4, a5, a6, a7, a8, a9, a10, a11, a12)) (hq : ∀ u, zt_B K H fr u → post u) : wpX_list post (ft, fc, fn, fl, fu, a1, a2, a3, a4, a5, a6, a7, a8, a9, a10, a11, a12) := by
  obtain ⟨hT, hR, hn, h40, hl⟩ := h
  unfold wpX_list
  refine br_c (fun z => ?_) (fun z => ?_)
  · by_cases hK : K [] = []
    · have eft : ft = -1 := by
        rw [hT.2.1, hK]
        rfl
      refine br_t eft ?_
      unfold wX_list_31
      refine nm_e (nm_e ⟨1, br_f (by decide) (br_t (by decide) (hq _ ⟨hT, hR, hn, h40, (by decide), ?_⟩))⟩)
      have : zt_wds K H = [] := zt_wd_0 hK
      refine ⟨by rw [this]; rfl, fun i hi => ?_⟩
      rw [this] at hi
      cases hi
    · have eft : ¬ ft = -1 := by
        rw [hT.2.1]
        obtain ⟨n, B, en⟩ := List.exists_cons_of_ne_nil hK
        have := (zt_ch_mem (hT.2.2.1 []) (n := n) (by rw [en]; simp)).1
        rw [en]
        exact zt_nm1 (by omega)
      refine br_f eft ?_
      unfold wX_list_31
      refine nm_e (nm_e ?_)
      obtain ⟨c1, c2⟩ := zt_cost_le hT.1 3 [] rfl hK
      have c3 : zt_cost K 3 [] ≤ 360 := by
        have : 3 * 3 * (zt_wd K H 3 []).length ≤ 3 * 3 * 40 := Nat.mul_le_mul_left _ h40
        omega
      refine zt_lD hT 3 [] rfl hK 0 [] 0 a8 a9 a10 (upd a11 0 ft) (upd a12 0 0) trivial (by rw [← hT.2.1]; exact pk_us) pk_us ⟨rfl, fun i hi => by cases hi⟩ (by rw [List.length_nil, Nat.zero_add]; exact h40) (by omega) ?_
      intro fl' a8' a9' a10' a11' a12' g1 g2
      refine ⟨1, pk_le 400 (0 + zt_cost K 3 []) (fun z => absurd z (by omega)) (fun _ => br_t (by decide) (hq _ ⟨hT, hR, hn, h40, (by decide), ?_⟩))⟩
      exact g1
  · refine hq _ ⟨hT, hR, hn, h40, z, ?_⟩
    rcases hl with k | k
    · exact absurd k z
    · exact k
theorem zt_list2 {post : St1 → Prop} (h : ¬ fu = 0) (hq : post (ft, fc, fn, fl, fu, a1, a2, a3, a4, a5, a6, a7, a8, a9, a10, a11, a12)) : wpX_list post (ft, fc, fn, fl, fu, a1, a2, a3, a4, a5, a6, a7, a8, a9, a10, a11, a12) := br_f h hq
end
end
section
theorem zt_gd {α : Type} {l : List α} {i : Nat} {d : α} (h : i < l.length) : l.getD i d = l[i] := by
  rw [List.getD_eq_getElem?_getD, List.getElem?_eq_getElem h]
  rfl
theorem zt_gm {α : Type} {l : List α} {i : Nat} {d : α} (h : i < l.length) : l.getD i d ∈ l := by
  rw [zt_gd h]
  exact List.getElem_mem h
theorem zt_B_A {K : List Nat → zt_Ch} {H : List Nat → Bool} {fr : List Nat} {u : St1} (h : zt_B K H fr u) : zt_A K H fr u := by
  obtain ⟨ft, fc, fn, fl, fu, a1, a2, a3, a4, a5, a6, a7, a8, a9, a10, a11, a12⟩ := u
  obtain ⟨h1, h2, h3, h4, h5, h6⟩ := h
  exact ⟨h1, h2, h3, h4, Or.inr h6⟩
theorem zt_A_I {K : List Nat → zt_Ch} {H : List Nat → Bool} {fr : List Nat} {u : St1} (h : zt_A K H fr u) : zt_I u := ⟨K, H, fr, h⟩
/-- a word that the listing names -/
theorem zt_nth {X E : List Nat → Prop} {K : List Nat → zt_Ch} {H : List Nat → Bool} (h : zt_G X E K H) {i : Nat} (hi : i < (zt_wds K H).length) : zt_word (zt_code ((zt_wds K H).getD i [])) ∧ zt_pre (zt_code ((zt_wds K H).getD i [])) (zt_ly (zt_code ((zt_wds K H).getD i []))) = (zt_wds K H).getD i [] := by
  have hq := (zt_wds_iff h _).mp (zt_gm (d := []) hi)
  obtain ⟨f1, f2, f3⟩ := zt_F2 (zt_H_ok h hq)
  exact ⟨f1, by rw [f2]; exact f3⟩
theorem zt_clL {post : Int32 → St1 → Prop} {r : Nat} {W : List (List Nat)} (hr : r < 2 ^ 31) (hW : W.length ≤ 40) (hnd : W.Nodup) (hq : ∀ r u, zt_I u → post r u) :
    ∀ d i, i + d = W.length → ∀ x3 K H fr ft fc fn fl fu a1 a2 a3 a4 a5 a6 a7 a8 a9 a10 a11 a12, zt_A K H fr (ft, fc, fn, fl, fu, a1, a2, a3, a4, a5, a6, a7, a8, a9, a10, a11, a12) → (∀ j, j < W.length → a9 j = nI (zt_code (W.getD j []))) → (∀ j, i ≤ j → j < W.length → H (W.getD j []) = true) → wX_clear_23 post (nI r) (nI W.length) (d + 1) x3 (nI i) ft fc fn fl fu a1 a2 a3 a4 a5 a6 a7 a8 a9 a10 a11 a12 := by
  intro d
  induction d with
  | zero =>
    intro i hi x3 K H fr ft fc fn fl fu a1 a2 a3 a4 a5 a6 a7 a8 a9 a10 a11 a12 hA h9 hH
    exact pk_le W.length i (fun _ => hq _ _ (zt_A_I hA)) (fun z => absurd z (by omega))
  | succ d ih =>
    intro i hi x3 K H fr ft fc fn fl fu a1 a2 a3 a4 a5 a6 a7 a8 a9 a10 a11 a12 hA h9 hH
    have hA' := hA
    obtain ⟨hT, hR, hn, h40, _⟩ := hA'
    refine pk_le W.length i (fun z => absurd z (by omega)) (fun _ => ⟨pk_in i 40 (by omega), ?_⟩)
    rw [nI_clamp (by omega), h9 i (by omega)]
    have hHi := hH i (Nat.le_refl _) (by omega)
    obtain ⟨f1, f2, f3⟩ := zt_F2 (zt_H_ok hT.1 hHi)
    have flt := zt_row_lt f1.2
    refine zt_begins hr (by omega) (fun _ => br_f (by decide) ⟨pk_in i 40 (by omega), ?_⟩) (fun _ => br_t rfl (nm_r (nI_1 i) (ih (i + 1) (by omega) x3 K H fr _ _ _ _ _ _ _ _ _ _ _ _ _ _ _ _ _ hA h9 (fun j h1 h2 => hH j (by omega) h2))))
    refine zt_takeOut f1 hT hR (by rw [f2, f3]; exact hHi) ?_
    rw [f2, f3]
    intro K' fr' ft' fc' a1' a2' a5' a6' a7' a8' t1 t2
    have hl := zt_len_sub hT.1 t1.1 hHi
    refine nm_e (nm_r (nI_1 i) (ih (i + 1) (by omega) _ K' (zt_hup H (W.getD i []) false) fr' _ _ _ _ _ _ _ _ _ _ _ _ _ _ _ _ _ ⟨t1, t2, ?_, by omega, Or.inl rfl⟩ h9 (fun j h1 h2 => ?_)))
    · rw [hn, hl]
      exact nI_pred _
    · unfold zt_hup
      rw [if_neg]
      · exact hH j (by omega) h2
      · intro e
        have := (List.getD_inj h2 (by omega : i < W.length) hnd).mp e
        omega
section
variable {ft fc fn fl fu : Int32} {a1 a2 a3 a4 a5 a6 a7 a8 a9 a10 a11 a12 : Nat → Int32}
theorem zt_clear {post : Int32 → St1 → Prop} {r : Nat} (h : zt_I (ft, fc, fn, fl, fu, a1, a2, a3, a4, a5, a6, a7, a8, a9, a10, a11, a12)) (hr : r < 2 ^ 31) (hq : ∀ r u, zt_I u → post r u) : wpX_clear post (ft, fc, fn, fl, fu, a1, a2, a3, a4, a5, a6, a7, a8, a9, a10, a11, a12) (nI r) := by
  have hI := h
  obtain ⟨K, H, fr, hA⟩ := h
  unfold wpX_clear
  refine zt_isRow hr (fun _ => br_f (by decide) (zt_list hA ?_)) (fun _ => br_t rfl (hq _ _ hI))
  rintro ⟨ft', fc', fn', fl', fu', a1', a2', a3', a4', a5', a6', a7', a8', a9', a10', a11', a12'⟩ hB
  have hA' := zt_B_A hB
  obtain ⟨h1, h2, h3, h4, h5, h6, h7⟩ := hB
  dsimp only
  rw [h6] at hA' ⊢
  exact ⟨_, zt_clL hr h4 (zt_wds_nd h1.1) hq (zt_wds K H).length 0 (by omega) 0 K H fr _ _ _ _ _ _ _ _ _ _ _ _ _ _ _ _ _ hA' h7 (fun j _ hj => (zt_wds_iff h1.1 _).mp (zt_gm hj))⟩
/-- does a row begin a word -/
theorem zt_has {post : Int32 → Prop} {K : List Nat → zt_Ch} {H : List Nat → Bool} {fr : List Nat} {w : Nat} (h : zt_A K H fr (ft, fc, fn, fl, fu, a1, a2, a3, a4, a5, a6, a7, a8, a9, a10, a11, a12)) (hw : zt_word w) (h1 : H (zt_pre w (zt_ly w)) = true → post 1) (h0 : H (zt_pre w (zt_ly w)) = false → post 0) : wpX_has post (ft, fc, fn, fl, fu, a1, a2, a3, a4, a5, a6, a7, a8, a9, a10, a11, a12) (nI w) := by
  obtain ⟨hT, hR, hn, h40, _⟩ := h
  have hwl := zt_row_lt hw.2
  unfold wpX_has
  refine zt_isWord (by omega) (fun hwd => br_f (by decide) ?_) (fun z => absurd hw z)
  refine zt_find hwd hT ?_ ?_
  · intro e e1 e2 e3
    refine br_f (nI_pos (by omega)) ⟨pk_in e 488 e1, ?_⟩
    rw [nI_clamp (by omega), e3]
    cases hH : H (zt_pre w (zt_ly w)) with
    | false => exact br_t rfl (h0 hH)
    | true => exact br_f (by decide) (h1 hH)
  · intro hH
    exact br_t (by decide) (h0 hH)
end
theorem zt_beg {w k : Nat} (hw : zt_word w) (h1 : 1 ≤ k) (h2 : k ≤ zt_sz w) : zt_word (w / 2 ^ (3 * (zt_sz w - k))) := by
  rw [zt_word_iff] at hw ⊢
  rcases zt_sz_cases w with ⟨e, h3⟩ | ⟨e, h3, h4⟩ | ⟨e, h3, h4⟩ | ⟨e, h3, h4⟩ | ⟨e, h3, h4⟩ | ⟨e, h3, h4⟩ | ⟨e, h3, h4⟩ | ⟨e, h3⟩
  all_goals (rw [e] at h2 ⊢)
  · omega
  · obtain rfl : k = 1 := by omega
    simp only [Nat.reduceSub, Nat.reduceMul, Nat.reducePow]
    omega
  · obtain rfl | rfl : k = 1 ∨ k = 2 := by omega
    all_goals (simp only [Nat.reduceSub, Nat.reduceMul, Nat.reducePow]; omega)
  · obtain rfl | rfl | rfl : k = 1 ∨ k = 2 ∨ k = 3 := by omega
    all_goals (simp only [Nat.reduceSub, Nat.reduceMul, Nat.reducePow]; omega)
  · obtain rfl | rfl | rfl | rfl : k = 1 ∨ k = 2 ∨ k = 3 ∨ k = 4 := by omega
    all_goals (simp only [Nat.reduceSub, Nat.reduceMul, Nat.reducePow]; omega)
  · obtain rfl | rfl | rfl | rfl | rfl : k = 1 ∨ k = 2 ∨ k = 3 ∨ k = 4 ∨ k = 5 := by omega
    all_goals (simp only [Nat.reduceSub, Nat.reduceMul, Nat.reducePow]; omega)
  · obtain rfl | rfl | rfl | rfl | rfl | rfl : k = 1 ∨ k = 2 ∨ k = 3 ∨ k = 4 ∨ k = 5 ∨ k = 6 := by omega
    all_goals (simp only [Nat.reduceSub, Nat.reduceMul, Nat.reducePow]; omega)
  · omega
section
variable {ft fc fn fl fu : Int32} {a1 a2 a3 a4 a5 a6 a7 a8 a9 a10 a11 a12 : Nat → Int32}
theorem zt_loL {post : Int32 → Prop} {K : List Nat → zt_Ch} {H : List Nat → Bool} {fr : List Nat} {w : Nat} (h : zt_A K H fr (ft, fc, fn, fl, fu, a1, a2, a3, a4, a5, a6, a7, a8, a9, a10, a11, a12)) (hw : zt_word w) (h1 : H (zt_pre w (zt_ly w)) = true → post (nI w)) (h0 : H (zt_pre w (zt_ly w)) = false → ∀ x, x ≠ nI w → post x) :
    ∀ k, k ≤ zt_sz w → 0 < k ∨ H (zt_pre w (zt_ly w)) = false → k = zt_sz w ∨ H (zt_pre w (zt_ly w)) = false → wX_longest_16 post (nI w) (nI (zt_sz w)) ft fc fn fl fu a1 a2 a3 a4 a5 a6 a7 a8 a9 a10 a11 a12 (k + 1) (nI k) := by
  have hwl := zt_row_lt hw.2
  have h7 := zt_sz_le w
  have hA := h
  obtain ⟨hT, hR, hn, h40, _⟩ := h
  intro k
  induction k with
  | zero =>
    intro _ hz hk
    have hf : H (zt_pre w (zt_ly w)) = false := by
      rcases hz with k | k
      · omega
      · exact k
    refine br_t (by decide) (h0 hf _ ?_)
    intro e
    have e2 := nI_toInt (n := w) (by omega)
    rw [← e] at e2
    have : (-2 : Int32).toInt = -2 := rfl
    omega
  | succ k ih =>
    intro hk _ hor
    refine pk_lt (k + 1) 1 (fun z => absurd z (by omega)) (fun _ => ?_)
    rw [pk_sub hk, pk_shrN (by omega) _ (3 * (zt_sz w - (k + 1))) (zt_t4 _ (by omega))]
    refine nm_e ?_
    have hbw := zt_beg hw (by omega) hk
    have cont : H (zt_pre w (zt_ly w)) = false → wX_longest_16 post (nI w) (nI (zt_sz w)) ft fc fn fl fu a1 a2 a3 a4 a5 a6 a7 a8 a9 a10 a11 a12 (k + 1) (nI k) := fun hf => ih (by omega) (Or.inr hf) (Or.inr hf)
    have hz : ∀ b, b = H (zt_pre (w / 2 ^ (3 * (zt_sz w - (k + 1)))) (zt_ly (w / 2 ^ (3 * (zt_sz w - (k + 1)))))) → (b = false → H (zt_pre w (zt_ly w)) = false) := by
      intro b eb hb
      rcases hor with k1 | k1
      · rw [← k1, Nat.sub_self, Nat.mul_zero, Nat.pow_zero, Nat.div_one, hb] at eb
        exact eb.symm
      · exact k1
    refine zt_find hbw hT ?_ ?_
    · intro e e1 e2 e3
      refine br_f (nI_pos (by omega)) ⟨pk_in e 488 e1, ?_⟩
      rw [nI_clamp (by omega), e3]
      cases hH : H (zt_pre (w / 2 ^ (3 * (zt_sz w - (k + 1)))) (zt_ly (w / 2 ^ (3 * (zt_sz w - (k + 1)))))) with
      | false => exact br_t rfl (nm_r (pk_m1 k) (cont (hz _ hH.symm rfl)))
      | true =>
        refine br_f (by decide) ?_
        by_cases hke : k + 1 = zt_sz w
        · rw [← hke, Nat.sub_self, Nat.mul_zero, Nat.pow_zero, Nat.div_one] at hH ⊢
          exact h1 hH
        · have hf : H (zt_pre w (zt_ly w)) = false := by
            rcases hor with k1 | k1
            · exact absurd k1 hke
            · exact k1
          refine h0 hf _ ?_
          intro e
          have hlt : w / 2 ^ (3 * (zt_sz w - (k + 1))) < w := Nat.div_lt_self (by have := hw.1; omega) (Nat.one_lt_two_pow (by omega))
          have := (nI_eq (by omega) (by omega)).mp e
          omega
    · intro hH
      exact br_t (by decide) (nm_r (pk_m1 k) (cont (hz _ hH.symm rfl)))
theorem zt_longest {post : Int32 → Prop} {K : List Nat → zt_Ch} {H : List Nat → Bool} {fr : List Nat} {w : Nat} (h : zt_A K H fr (ft, fc, fn, fl, fu, a1, a2, a3, a4, a5, a6, a7, a8, a9, a10, a11, a12)) (hw : zt_word w) (h1 : H (zt_pre w (zt_ly w)) = true → post (nI w)) (h0 : H (zt_pre w (zt_ly w)) = false → ∀ x, x ≠ nI w → post x) : wpX_longest post (ft, fc, fn, fl, fu, a1, a2, a3, a4, a5, a6, a7, a8, a9, a10, a11, a12) (nI w) := by
  have hwl := zt_row_lt hw.2
  have hz : 0 < zt_sz w := by
    have := zt_sz_cases w
    have := (zt_word_iff w).mp hw
    omega
  unfold wpX_longest
  exact zt_isWord (by omega) (fun hwd => br_f (by decide) (zt_sizeOf (by omega) ⟨_, zt_loL h hw h1 h0 (zt_sz w) (Nat.le_refl _) (Or.inl hz) (Or.inl rfl)⟩)) (fun z => absurd hw z)
end
end
section
def zt_bgb (r w : Nat) : Bool := decide (zt_sz r ≤ zt_sz w) && decide (w / 2 ^ (3 * (zt_sz w - zt_sz r)) = r)
theorem zt_bgb_iff (r w : Nat) : zt_bgb r w = true ↔ zt_bg r w := by
  unfold zt_bgb zt_bg
  simp
/-- how many of the words begin with a row -/
def zt_ct (r : Nat) (W : List (List Nat)) : Nat := W.countP (fun q => zt_bgb r (zt_code q))
theorem zt_ct_s {r i : Nat} {W : List (List Nat)} (h : i < W.length) : zt_ct r (W.take (i + 1)) = zt_ct r (W.take i) + (if zt_bgb r (zt_code (W.getD i [])) = true then 1 else 0) := by
  unfold zt_ct
  rw [List.take_succ_eq_append_getElem h, List.countP_append, List.countP_singleton, zt_gd h]
section
variable {ft fc fn fl fu : Int32} {a1 a2 a3 a4 a5 a6 a7 a8 a9 a10 a11 a12 : Nat → Int32}
theorem zt_count {post : Int32 → St1 → Prop} {K : List Nat → zt_Ch} {H : List Nat → Bool} {fr : List Nat} {r : Nat} (h : zt_A K H fr (ft, fc, fn, fl, fu, a1, a2, a3, a4, a5, a6, a7, a8, a9, a10, a11, a12)) (hr : zt_row r) (hq : ∀ u, zt_B K H fr u → post (nI (zt_ct r (zt_wds K H))) u) : wpX_count post (ft, fc, fn, fl, fu, a1, a2, a3, a4, a5, a6, a7, a8, a9, a10, a11, a12) (nI r) := by
  have hrl := zt_row_lt hr
  unfold wpX_count
  refine zt_isRow (by omega) (fun _ => br_f (by decide) (zt_list h ?_)) (fun z => absurd hr z)
  rintro ⟨ft', fc', fn', fl', fu', a1', a2', a3', a4', a5', a6', a7', a8', a9', a10', a11', a12'⟩ hB
  have hq' := hq _ hB
  obtain ⟨h1, h2, h3, h4, h5, h6, h7⟩ := hB
  dsimp only
  refine pk_loop (σ := Unit) (fun n i _ => wX_count_17 post (nI r) ft' fc' fn' fl' fu' a1' a2' a3' a4' a5' a6' a7' a8' a9' a10' a11' a12' n (nI (zt_ct r ((zt_wds K H).take i))) (nI i)) (fun _ _ => True) (zt_wds K H).length 0 () (Nat.zero_le _) trivial ?_ ?_
  · intro n _ _
    refine pk_le (zt_wds K H).length (zt_wds K H).length (fun _ => ?_) (fun z => absurd z (by omega)) h6
    rw [List.take_length]
    exact hq'
  · intro n i _ hi _ hw
    have hw' := hw () trivial
    rw [zt_ct_s hi] at hw'
    obtain ⟨f1, _⟩ := zt_nth h1.1 hi
    have fl1 := zt_row_lt f1.2
    refine pk_le (zt_wds K H).length i (fun z => absurd z (by omega)) (fun _ => ⟨pk_in i 40 (by omega), ?_⟩) h6
    rw [nI_clamp (by omega), h7 i hi]
    refine zt_begins (by omega) (by omega) (fun z => br_f (by decide) (nm_r (nI_1 _) (nm_r (nI_1 i) ?_))) (fun z => br_t rfl (nm_r (e' := nI (zt_ct r ((zt_wds K H).take i) + 0)) (by rw [show (0 : Int32) = nI 0 from rfl, nI_add]) (nm_r (nI_1 i) ?_)))
    · rw [if_pos ((zt_bgb_iff _ _).mpr z)] at hw'
      exact hw'
    · rw [if_neg (fun k => z ((zt_bgb_iff _ _).mp k))] at hw'
      exact hw'
theorem zt_select {post : Int32 → St1 → Prop} {K : List Nat → zt_Ch} {H : List Nat → Bool} {fr : List Nat} {k : Nat} (h : zt_A K H fr (ft, fc, fn, fl, fu, a1, a2, a3, a4, a5, a6, a7, a8, a9, a10, a11, a12)) (hk : k < (zt_wds K H).length) (hq : ∀ u, zt_B K H fr u → post (nI (zt_code ((zt_wds K H).getD k []))) u) : wpX_select post (ft, fc, fn, fl, fu, a1, a2, a3, a4, a5, a6, a7, a8, a9, a10, a11, a12) (nI k) := by
  have h40 := h.2.2.2.1
  unfold wpX_select
  refine zt_list h ?_
  rintro ⟨ft', fc', fn', fl', fu', a1', a2', a3', a4', a5', a6', a7', a8', a9', a10', a11', a12'⟩ hB
  have hq' := hq _ hB
  obtain ⟨h1, h2, h3, h4, h5, h6, h7⟩ := hB
  dsimp only
  refine br_f (nI_pos (by omega)) (pk_le (zt_wds K H).length k (fun z => absurd z (by omega)) (fun _ => ⟨pk_in k 40 (by omega), ?_⟩) h6)
  rw [nI_clamp (by omega), h7 k hk]
  exact hq'
theorem zt_ord3 {X E : List Nat → Prop} {K : List Nat → zt_Ch} {H : List Nat → Bool} (h : zt_G X E K H) {i k : Nat} (hi : i < (zt_wds K H).length) (hk : k < (zt_wds K H).length) : zt_cb (zt_code ((zt_wds K H).getD i [])) (zt_code ((zt_wds K H).getD k [])) ↔ i < k := by
  have hp := List.pairwise_iff_getElem.mp (zt_wds_pw h)
  rw [zt_gd hi, zt_gd hk]
  constructor
  · intro hc
    rcases Nat.lt_trichotomy i k with z | z | z
    · exact z
    · subst z
      exact absurd hc (zt_cb_asymm hc)
    · exact absurd hc (zt_cb_asymm (hp k i hk hi z))
  · intro z
    exact hp i k hi hk z
theorem zt_plL {post : Int32 → St1 → Prop} {K : List Nat → zt_Ch} {H : List Nat → Bool} {fr : List Nat} {k : Nat} (h : zt_B K H fr (ft, fc, fn, fl, fu, a1, a2, a3, a4, a5, a6, a7, a8, a9, a10, a11, a12)) (hk : k < (zt_wds K H).length) (hq : post (nI k) (ft, fc, fn, fl, fu, a1, a2, a3, a4, a5, a6, a7, a8, a9, a10, a11, a12)) :
    ∀ d lo hi, d ≤ 6 → lo ≤ k → k ≤ hi → hi ≤ (zt_wds K H).length → hi < lo + 2 ^ d → wX_placeOf_14 post (nI (zt_code ((zt_wds K H).getD k []))) ft fc fn fl fu a1 a2 a3 a4 a5 a6 a7 a8 a9 a10 a11 a12 (d + 1) (nI lo) (nI hi) (nI (6 - d)) := by
  obtain ⟨h1, h2, h3, h4, h5, h6, h7⟩ := h
  intro d
  induction d with
  | zero =>
    intro lo hi _ l1 l2 l3 l4
    refine pk_le 7 6 (fun z => absurd z (by omega)) (fun _ => pk_le hi lo (fun _ => ?_) (fun z => absurd z (by omega)))
    rw [show lo = k by omega]
    exact hq
  | succ d ih =>
    intro lo hi hd l1 l2 l3 l4
    rw [Nat.pow_succ] at l4
    refine pk_le 7 (6 - (d + 1)) (fun z => absurd z (by omega)) (fun _ => pk_le hi lo (fun _ => ?_) (fun z => ?_))
    · rw [show lo = k by omega]
      exact hq
    · have em : (nI lo + nI hi) >>> ((1 : Int32) &&& 31) = nI ((lo + hi) / 2 ^ 1) := by
        rw [nI_add]
        exact pk_shrN (by omega) _ 1 (by decide)
      refine nm_r em ⟨pk_in ((lo + hi) / 2 ^ 1) 40 (by omega), ?_⟩
      rw [nI_clamp (by omega), h7 _ (by omega)]
      have hmid : (lo + hi) / 2 ^ 1 < (zt_wds K H).length := by omega
      have f1 := zt_row_lt (zt_nth h1.1 hmid).1.2
      have f2 := zt_row_lt (zt_nth h1.1 hk).1.2
      refine zt_comesBefore (by omega) (by omega) (fun c => br_f (by decide) (nm_r (nI_1 _) (nm_r (e' := nI (6 - d)) (by rw [nI_1]; congr 1; omega) ?_))) (fun c => br_t rfl (nm_r (e' := nI (6 - d)) (by rw [nI_1]; congr 1; omega) ?_))
      · have := (zt_ord3 h1.1 hmid hk).mp c
        exact ih _ hi (by omega) (by omega) l2 l3 (by omega)
      · have hnk : ¬ (lo + hi) / 2 ^ 1 < k := fun z => c ((zt_ord3 h1.1 hmid hk).mpr z)
        exact ih lo _ (by omega) l1 (by omega) (by omega) (by omega)
theorem zt_placeOf {post : Int32 → St1 → Prop} {K : List Nat → zt_Ch} {H : List Nat → Bool} {fr : List Nat} {k : Nat} (h : zt_A K H fr (ft, fc, fn, fl, fu, a1, a2, a3, a4, a5, a6, a7, a8, a9, a10, a11, a12)) (hk : k < (zt_wds K H).length) (hq : ∀ u, zt_B K H fr u → post (nI k) u) : wpX_placeOf post (ft, fc, fn, fl, fu, a1, a2, a3, a4, a5, a6, a7, a8, a9, a10, a11, a12) (nI (zt_code ((zt_wds K H).getD k []))) := by
  unfold wpX_placeOf
  refine zt_list h ?_
  rintro ⟨ft', fc', fn', fl', fu', a1', a2', a3', a4', a5', a6', a7', a8', a9', a10', a11', a12'⟩ hB
  have hq' := hq _ hB
  have hB' := hB
  obtain ⟨h1, h2, h3, h4, h5, h6, h7⟩ := hB
  have key := zt_plL hB' hk hq' 6 0 (zt_wds K H).length (by omega) (by omega) (by omega) (by omega) (by omega)
  rw [← h6] at key
  exact ⟨_, key⟩
theorem zt_rank {post : Int32 → St1 → Prop} {K : List Nat → zt_Ch} {H : List Nat → Bool} {fr : List Nat} {k : Nat} (h : zt_A K H fr (ft, fc, fn, fl, fu, a1, a2, a3, a4, a5, a6, a7, a8, a9, a10, a11, a12)) (hk : k < (zt_wds K H).length) (hq : ∀ u, zt_B K H fr u → post (nI k) u) : wpX_rank post (ft, fc, fn, fl, fu, a1, a2, a3, a4, a5, a6, a7, a8, a9, a10, a11, a12) (nI (zt_code ((zt_wds K H).getD k []))) := by
  have hw := (zt_nth h.1.1 hk).1
  have hwl := zt_row_lt hw.2
  unfold wpX_rank
  refine zt_isWord (by omega) (fun _ => br_f (by decide) (zt_placeOf h hk ?_)) (fun z => absurd hw z)
  rintro ⟨ft', fc', fn', fl', fu', a1', a2', a3', a4', a5', a6', a7', a8', a9', a10', a11', a12'⟩ hB
  exact hq _ hB
theorem zt_next {post : Int32 → St1 → Prop} {K : List Nat → zt_Ch} {H : List Nat → Bool} {fr : List Nat} {k : Nat} (h : zt_A K H fr (ft, fc, fn, fl, fu, a1, a2, a3, a4, a5, a6, a7, a8, a9, a10, a11, a12)) (hk : k < (zt_wds K H).length) (hq : ∀ u, zt_B K H fr u → (k + 1 < (zt_wds K H).length → post (nI (zt_code ((zt_wds K H).getD (k + 1) []))) u) ∧ (k + 1 = (zt_wds K H).length → post (-2) u)) : wpX_next post (ft, fc, fn, fl, fu, a1, a2, a3, a4, a5, a6, a7, a8, a9, a10, a11, a12) (nI (zt_code ((zt_wds K H).getD k []))) := by
  have hw := (zt_nth h.1.1 hk).1
  have hwl := zt_row_lt hw.2
  unfold wpX_next
  refine zt_isWord (by omega) (fun _ => br_f (by decide) (zt_placeOf h hk ?_)) (fun z => absurd hw z)
  rintro ⟨ft', fc', fn', fl', fu', a1', a2', a3', a4', a5', a6', a7', a8', a9', a10', a11', a12'⟩ hB
  obtain ⟨q1, q2⟩ := hq _ hB
  obtain ⟨h1, h2, h3, h4, h5, h6, h7⟩ := hB
  dsimp only
  refine pk_le (zt_wds K H).length k (fun z => absurd z (by omega)) (fun _ => ⟨pk_in k 40 (by omega), ?_⟩) h6
  rw [nI_clamp (by omega), h7 k hk]
  refine br_t rfl (nm_r (nI_1 k) ?_)
  unfold wX_next_36
  refine pk_le (zt_wds K H).length (k + 1) (fun z => q2 (by omega)) (fun z => ⟨pk_in (k + 1) 40 (by omega), ?_⟩) h6
  rw [nI_clamp (by omega), h7 (k + 1) z]
  exact q1 z
theorem zt_previous {post : Int32 → St1 → Prop} {K : List Nat → zt_Ch} {H : List Nat → Bool} {fr : List Nat} {k : Nat} (h : zt_A K H fr (ft, fc, fn, fl, fu, a1, a2, a3, a4, a5, a6, a7, a8, a9, a10, a11, a12)) (hk : k + 1 < (zt_wds K H).length) (hq : ∀ u, zt_B K H fr u → post (nI (zt_code ((zt_wds K H).getD k []))) u) : wpX_previous post (ft, fc, fn, fl, fu, a1, a2, a3, a4, a5, a6, a7, a8, a9, a10, a11, a12) (nI (zt_code ((zt_wds K H).getD (k + 1) []))) := by
  have hw := (zt_nth h.1.1 hk).1
  have hwl := zt_row_lt hw.2
  unfold wpX_previous
  refine zt_isWord (by omega) (fun _ => br_f (by decide) (zt_placeOf h hk ?_)) (fun z => absurd hw z)
  rintro ⟨ft', fc', fn', fl', fu', a1', a2', a3', a4', a5', a6', a7', a8', a9', a10', a11', a12'⟩ hB
  have hq' := hq _ hB
  obtain ⟨h1, h2, h3, h4, h5, h6, h7⟩ := hB
  dsimp only
  refine pk_le (k + 1) 0 (fun z => absurd z (by omega)) (fun _ => ?_)
  rw [nI_pred]
  refine ⟨pk_in k 40 (by omega), ?_⟩
  rw [nI_clamp (by omega), h7 k (by omega)]
  exact hq'
end
end
section
def zt_sm (f : Nat → Nat) : Nat → Nat
  | 0 => 0
  | n + 1 => zt_sm f n + f n
theorem zt_sm_add (f g : Nat → Nat) (n : Nat) : zt_sm (fun c => f c + g c) n = zt_sm f n + zt_sm g n := by
  induction n with
  | zero => rfl
  | succ n ih =>
    show zt_sm (fun c => f c + g c) n + (f n + g n) = zt_sm f n + f n + (zt_sm g n + g n)
    rw [ih]
    omega
theorem zt_sm_0 (f : Nat → Nat) (n : Nat) (h : ∀ c, c < n → f c = 0) : zt_sm f n = 0 := by
  induction n with
  | zero => rfl
  | succ n ih =>
    show zt_sm f n + f n = 0
    rw [ih (fun c hc => h c (by omega)), h n (by omega)]
theorem zt_sm_eq (x y n : Nat) : zt_sm (fun c => if x = y + c then 1 else 0) n = if y ≤ x ∧ x < y + n then 1 else 0 := by
  induction n with
  | zero =>
    rw [if_neg (by omega)]
    rfl
  | succ n ih =>
    show zt_sm (fun c => if x = y + c then 1 else 0) n + (if x = y + n then 1 else 0) = _
    rw [ih]
    by_cases h1 : x = y + n
    · rw [if_pos h1, if_neg (by omega), if_pos (by omega)]
    · rw [if_neg h1]
      by_cases h2 : y ≤ x ∧ x < y + n
      · rw [if_pos h2, if_pos (by omega)]
      · rw [if_neg h2, if_neg (by omega)]
theorem zt_sm_congr {f g : Nat → Nat} (n : Nat) (h : ∀ c, c < n → f c = g c) : zt_sm f n = zt_sm g n := by
  induction n with
  | zero => rfl
  | succ n ih =>
    show zt_sm f n + f n = zt_sm g n + g n
    rw [ih (fun c hc => h c (by omega)), h n (by omega)]
theorem zt_row1 {r : Nat} (h : zt_row r) : r = 1 ∨ zt_word r := by
  have := h.1
  by_cases e : r = 1
  · exact Or.inl e
  · exact Or.inr ⟨by omega, h⟩
theorem zt_row8 {r c : Nat} (h : zt_row r) (hr : r < 65536) (hc : c < 8) : zt_row (8 * r + c) ∧ zt_sz (8 * r + c) = zt_sz r + 1 := by
  have hw : zt_word (8 * r + c) := by
    rw [zt_word_iff]
    rcases zt_row1 h with k | k
    · omega
    · rw [zt_word_iff] at k
      omega
  refine ⟨hw.2, ?_⟩
  have c1 := zt_sz_cases r
  have c2 := zt_sz_cases (8 * r + c)
  have := h.1
  omega
theorem zt_pt {r w : Nat} (h : zt_row r) (hr : r < 65536) : (if zt_bgb r w = true then 1 else 0) = (if w = r then 1 else 0) + zt_sm (fun c => if zt_bgb (8 * r + c) w = true then 1 else 0) 8 := by
  by_cases hb : zt_sz r < zt_sz w
  · have e1 : zt_sm (fun c => if zt_bgb (8 * r + c) w = true then 1 else 0) 8 = zt_sm (fun c => if w / 2 ^ (3 * (zt_sz w - (zt_sz r + 1))) = 8 * r + c then 1 else 0) 8 := by
      refine zt_sm_congr 8 (fun c hc => ?_)
      have e := (zt_row8 h hr hc).2
      by_cases k : zt_bgb (8 * r + c) w = true
      · have k' := (zt_bgb_iff _ _).mp k
        unfold zt_bg at k'
        rw [e] at k'
        rw [if_pos k, if_pos k'.2]
      · rw [if_neg k, if_neg]
        intro k2
        apply k
        refine (zt_bgb_iff _ _).mpr ⟨by omega, ?_⟩
        rw [e]
        exact k2
    have hne : w ≠ r := by
      intro e
      rw [e] at hb
      omega
    rw [e1, zt_sm_eq, if_neg hne]
    have e2 : w / 2 ^ (3 * (zt_sz w - zt_sz r)) = w / 2 ^ (3 * (zt_sz w - (zt_sz r + 1))) / 8 := by
      rw [Nat.div_div_eq_div_mul, show (8 : Nat) = 2 ^ 3 from rfl, ← Nat.pow_add]
      congr 2
      omega
    by_cases k : zt_bgb r w = true
    · have k' := (zt_bgb_iff _ _).mp k
      unfold zt_bg at k'
      rw [e2] at k'
      rw [if_pos k, if_pos (by omega)]
    · rw [if_neg k, if_neg]
      intro k2
      apply k
      refine (zt_bgb_iff _ _).mpr ⟨by omega, ?_⟩
      rw [e2]
      omega
  · have e1 : zt_sm (fun c => if zt_bgb (8 * r + c) w = true then 1 else 0) 8 = 0 := by
      refine zt_sm_0 _ 8 (fun c hc => ?_)
      have e := (zt_row8 h hr hc).2
      rw [if_neg]
      intro k
      have := ((zt_bgb_iff _ _).mp k).1
      omega
    rw [e1]
    by_cases k : zt_bgb r w = true
    · have k' := (zt_bgb_iff _ _).mp k
      unfold zt_bg at k'
      rw [show zt_sz w - zt_sz r = 0 by omega, Nat.mul_zero, Nat.pow_zero, Nat.div_one] at k'
      rw [if_pos k, if_pos k'.2]
    · rw [if_neg k, if_neg]
      intro k2
      apply k
      refine (zt_bgb_iff _ _).mpr ⟨by rw [k2]; exact Nat.le_refl _, ?_⟩
      rw [k2, Nat.sub_self, Nat.mul_zero, Nat.pow_zero, Nat.div_one]
theorem zt_ct_sum {r : Nat} (h : zt_row r) (hr : r < 65536) (W : List (List Nat)) : zt_ct r W = W.countP (fun q => zt_code q == r) + zt_sm (fun c => zt_ct (8 * r + c) W) 8 := by
  induction W with
  | nil =>
    rw [zt_sm_0 (fun c => zt_ct (8 * r + c) []) 8 (fun c _ => rfl)]
    rfl
  | cons q W ih =>
    have e : ∀ r, zt_ct r (q :: W) = zt_ct r W + (if zt_bgb r (zt_code q) = true then 1 else 0) := fun r => List.countP_cons
    have e2 : zt_sm (fun c => zt_ct (8 * r + c) (q :: W)) 8 = zt_sm (fun c => zt_ct (8 * r + c) W) 8 + zt_sm (fun c => if zt_bgb (8 * r + c) (zt_code q) = true then 1 else 0) 8 := by
      rw [← zt_sm_add]
      exact zt_sm_congr 8 (fun c _ => e _)
    rw [e, e2, ih, zt_pt h hr, List.countP_cons]
    have e3 : (if (zt_code q == r) = true then 1 else 0) = (if zt_code q = r then 1 else 0) := by
      by_cases k : zt_code q = r
      · simp [k]
      · simp [k]
    rw [e3]
    omega
theorem zt_one {X E : List Nat → Prop} {K : List Nat → zt_Ch} {H : List Nat → Bool} (h : zt_G X E K H) {r : Nat} (hr : zt_word r) : (zt_wds K H).countP (fun q => zt_code q == r) = if H (zt_pre r (zt_ly r)) = true then 1 else 0 := by
  have e1 : (zt_wds K H).countP (fun q => zt_code q == r) = (zt_wds K H).count (zt_pre r (zt_ly r)) := by
    unfold List.count
    refine List.countP_congr (fun q hq => ?_)
    have ok := zt_H_ok h ((zt_wds_iff h q).mp hq)
    obtain ⟨f1, f2, f3⟩ := zt_F2 ok
    rw [beq_iff_eq, beq_iff_eq]
    constructor
    · intro e
      rw [e] at f2 f3
      rw [f2]
      exact f3.symm
    · intro e
      rw [e]
      exact (zt_F1 hr).2.1
  rw [e1, List.Nodup.count (zt_wds_nd h)]
  by_cases k : H (zt_pre r (zt_ly r)) = true
  · rw [if_pos k, if_pos ((zt_wds_iff h _).mpr k)]
  · rw [if_neg k, if_neg (fun k2 => k ((zt_wds_iff h _).mp k2))]
theorem zt_none {X E : List Nat → Prop} {K : List Nat → zt_Ch} {H : List Nat → Bool} (h : zt_G X E K H) : (zt_wds K H).countP (fun q => zt_code q == 1) = 0 := by
  rw [List.countP_eq_zero]
  intro q hq
  have ok := zt_H_ok h ((zt_wds_iff h q).mp hq)
  have := (zt_F2 ok).1.1
  simp
  omega
theorem zt_all {X E : List Nat → Prop} {K : List Nat → zt_Ch} {H : List Nat → Bool} (h : zt_G X E K H) : zt_ct 1 (zt_wds K H) = (zt_wds K H).length := by
  unfold zt_ct
  rw [List.countP_eq_length]
  intro q hq
  have ok := zt_H_ok h ((zt_wds_iff h q).mp hq)
  have hw := (zt_F2 ok).1
  refine (zt_bgb_iff _ _).mpr ⟨by rw [show zt_sz 1 = 0 from rfl]; omega, ?_⟩
  rw [show zt_sz 1 = 0 from rfl, Nat.sub_zero]
  obtain ⟨h1, h2, h3⟩ := hw
  have hz : 0 < zt_sz (zt_code q) := by
    have := zt_sz_cases (zt_code q)
    have := (zt_word_iff _).mp (zt_F2 ok).1
    omega
  have h4 := zt_sz_b hz
  exact Nat.div_eq_of_lt_le (by omega) (by omega)
end
section
section
variable {ft fc fn fl fu : Int32} {a1 a2 a3 a4 a5 a6 a7 a8 a9 a10 a11 a12 : Nat → Int32}
theorem zt_h189 {post : Int32 → St1 → Prop} {K : List Nat → zt_Ch} {H : List Nat → Bool} {fr : List Nat} {w : Nat} (h : zt_A K H fr (ft, fc, fn, fl, fu, a1, a2, a3, a4, a5, a6, a7, a8, a9, a10, a11, a12)) (hw : zt_word w) (hq : ∀ u, zt_I u → post 1 u) : wL_holds_189 post (nI w) ft fc fn fl fu a1 a2 a3 a4 a5 a6 a7 a8 a9 a10 a11 a12 := by
  have hp : post 1 (ft, fc, fn, fl, fu, a1, a2, a3, a4, a5, a6, a7, a8, a9, a10, a11, a12) := hq _ (zt_A_I h)
  have h203 : ∀ z, (H (zt_pre w (zt_ly w)) = true → z = (1 : Int32)) → (H (zt_pre w (zt_ly w)) = false → z = 0) → wL_holds_203 post (nI w) z ft fc fn fl fu a1 a2 a3 a4 a5 a6 a7 a8 a9 a10 a11 a12 := by
    intro z z1 z0
    unfold wL_holds_203
    refine zt_has h hw (fun hH => br_t rfl ?_) (fun hH => br_f (by decide) ?_)
    · unfold wL_holds_217
      exact br_t (z1 hH) hp
    · unfold wL_holds_217
      exact br_t (z0 hH) hp
  unfold wL_holds_189
  refine zt_longest h hw (fun hH => br_t rfl (h203 1 (fun _ => rfl) (fun k => ?_))) (fun hH x hx => br_f hx (h203 0 (fun k => ?_) (fun _ => rfl)))
  · rw [hH] at k
    cases k
  · rw [hH] at k
    cases k
end
theorem zt_h148 {post : Int32 → St1 → Prop} {K : List Nat → zt_Ch} {H : List Nat → Bool} {fr : List Nat} {w r base : Nat} (hw : zt_word w) (hr : zt_row r) (hr2 : r < 65536) (hb : zt_ct r (zt_wds K H) = base + zt_sm (fun c => zt_ct (8 * r + c) (zt_wds K H)) 8) (hq : ∀ u, zt_I u → post 1 u) :
    ∀ d c, c + d = 8 → ∀ ft fc fn fl fu a1 a2 a3 a4 a5 a6 a7 a8 a9 a10 a11 a12, zt_A K H fr (ft, fc, fn, fl, fu, a1, a2, a3, a4, a5, a6, a7, a8, a9, a10, a11, a12) → wL_holds_148 post (nI w) (nI r) (d + 1) (nI (base + zt_sm (fun c => zt_ct (8 * r + c) (zt_wds K H)) c)) (nI c) ft fc fn fl fu a1 a2 a3 a4 a5 a6 a7 a8 a9 a10 a11 a12 := by
  intro d
  induction d with
  | zero =>
    intro c hc ft fc fn fl fu a1 a2 a3 a4 a5 a6 a7 a8 a9 a10 a11 a12 hA
    obtain rfl : c = 8 := by omega
    refine pk_le 8 8 (fun _ => zt_count hA hr ?_) (fun z => absurd z (by omega))
    rintro ⟨ft', fc', fn', fl', fu', a1', a2', a3', a4', a5', a6', a7', a8', a9', a10', a11', a12'⟩ hB
    rw [← hb]
    exact br_t rfl (zt_h189 (zt_B_A hB) hw hq)
  | succ d ih =>
    intro c hc ft fc fn fl fu a1 a2 a3 a4 a5 a6 a7 a8 a9 a10 a11 a12 hA
    refine pk_le 8 c (fun z => absurd z (by omega)) (fun _ => ?_)
    rw [show (8 : Int32) * nI r + nI c = nI (8 * r + c) by rw [show (8 : Int32) = nI 8 from rfl, pk_mul, nI_add]]
    refine zt_count hA (zt_row8 hr hr2 (by omega)).1 ?_
    rintro ⟨ft', fc', fn', fl', fu', a1', a2', a3', a4', a5', a6', a7', a8', a9', a10', a11', a12'⟩ hB
    refine nm_r (e' := nI (base + zt_sm (fun c => zt_ct (8 * r + c) (zt_wds K H)) (c + 1))) ?_ (nm_r (nI_1 c) (ih (c + 1) (by omega) _ _ _ _ _ _ _ _ _ _ _ _ _ _ _ _ _ (zt_B_A hB)))
    rw [nI_add]
    congr 1
    exact Nat.add_assoc _ _ _
theorem zt_h29 {post : Int32 → St1 → Prop} {K : List Nat → zt_Ch} {H : List Nat → Bool} {fr : List Nat} {w r : Nat} (hw : zt_word w) (hr : zt_row r) (hq : ∀ u, zt_I u → post 1 u) :
    ∀ d k, k + d = (zt_wds K H).length → ∀ ft fc fn fl fu a1 a2 a3 a4 a5 a6 a7 a8 a9 a10 a11 a12, zt_A K H fr (ft, fc, fn, fl, fu, a1, a2, a3, a4, a5, a6, a7, a8, a9, a10, a11, a12) → wL_holds_29 post (nI w) (nI r) (nI (zt_wds K H).length) (d + 1) (nI k) ft fc fn fl fu a1 a2 a3 a4 a5 a6 a7 a8 a9 a10 a11 a12 := by
  have hrl := zt_row_lt hr
  intro d
  induction d with
  | zero =>
    intro k hk ft fc fn fl fu a1 a2 a3 a4 a5 a6 a7 a8 a9 a10 a11 a12 hA
    have h40 := hA.2.2.2.1
    refine pk_le (zt_wds K H).length k (fun _ => pk_le 65536 r (fun _ => zt_h189 hA hw hq) (fun z => pk_le r 1 (fun z1 => ?_) (fun z1 => ?_))) (fun z => absurd z (by omega))
    · have e1 : r = 1 := by
        have := hr.1
        omega
      have hb : zt_ct r (zt_wds K H) = 0 + zt_sm (fun c => zt_ct (8 * r + c) (zt_wds K H)) 8 := by
        rw [zt_ct_sum hr z, e1, zt_none hA.1.1]
      exact ⟨_, zt_h148 hw hr z hb hq 8 0 rfl _ _ _ _ _ _ _ _ _ _ _ _ _ _ _ _ _ hA⟩
    · have hrw : zt_word r := ⟨z1, hr⟩
      have hone := zt_one hA.1.1 hrw
      refine zt_has hA hrw (fun hH => ?_) (fun hH => ?_)
      · have hb : zt_ct r (zt_wds K H) = 1 + zt_sm (fun c => zt_ct (8 * r + c) (zt_wds K H)) 8 := by
          rw [zt_ct_sum hr z, hone, if_pos hH]
        exact ⟨_, zt_h148 hw hr z hb hq 8 0 rfl _ _ _ _ _ _ _ _ _ _ _ _ _ _ _ _ _ hA⟩
      · have hb : zt_ct r (zt_wds K H) = 0 + zt_sm (fun c => zt_ct (8 * r + c) (zt_wds K H)) 8 := by
          rw [zt_ct_sum hr z, hone, if_neg (by rw [hH]; decide)]
        exact ⟨_, zt_h148 hw hr z hb hq 8 0 rfl _ _ _ _ _ _ _ _ _ _ _ _ _ _ _ _ _ hA⟩
  | succ d ih =>
    intro k hk ft fc fn fl fu a1 a2 a3 a4 a5 a6 a7 a8 a9 a10 a11 a12 hA
    have h40 := hA.2.2.2.1
    have hk' : k < (zt_wds K H).length := by omega
    have hwk := (zt_nth hA.1.1 hk').1
    have hwkl := zt_row_lt hwk.2
    have hwk8 := (zt_word_iff _).mp hwk
    refine pk_le (zt_wds K H).length k (fun z => absurd z (by omega)) (fun _ => zt_select hA hk' ?_)
    rintro ⟨ft1, fc1, fn1, fl1, fu1, a11, a21, a31, a41, a51, a61, a71, a81, a91, a101, a111, a121⟩ hB1
    refine pk_lt (zt_code ((zt_wds K H).getD k [])) 8 (fun z => absurd z (by omega)) (fun _ => zt_rank (zt_B_A hB1) hk' ?_)
    rintro ⟨ft2, fc2, fn2, fl2, fu2, a12, a22, a32, a42, a52, a62, a72, a82, a92, a102, a112, a122⟩ hB2
    refine br_t rfl (zt_next (zt_B_A hB2) hk' ?_)
    rintro ⟨ft3, fc3, fn3, fl3, fu3, a13, a23, a33, a43, a53, a63, a73, a83, a93, a103, a113, a123⟩ hB3
    refine ⟨fun z => ?_, fun z => ?_⟩
    · have hwn := (zt_nth hA.1.1 z).1
      have hwnl := zt_row_lt hwn.2
      have hwn8 := (zt_word_iff _).mp hwn
      dsimp only
      rw [nI_1]
      refine pk_le (zt_wds K H).length (k + 1) (fun z2 => absurd z2 (by omega)) (fun _ => zt_select (zt_B_A hB3) z ?_)
      rintro ⟨ft4, fc4, fn4, fl4, fu4, a14, a24, a34, a44, a54, a64, a74, a84, a94, a104, a114, a124⟩ hB4
      dsimp only
      unfold wL_holds_94
      refine br_t rfl (pk_le (zt_code ((zt_wds K H).getD (k + 1) [])) 0 (fun z2 => absurd z2 (by omega)) (fun _ => zt_previous (zt_B_A hB4) z ?_))
      rintro ⟨ft5, fc5, fn5, fl5, fu5, a15, a25, a35, a45, a55, a65, a75, a85, a95, a105, a115, a125⟩ hB5
      exact br_t rfl (nm_r (nI_1 k) (ih (k + 1) (by omega) _ _ _ _ _ _ _ _ _ _ _ _ _ _ _ _ _ (zt_B_A hB5)))
    · dsimp only
      rw [nI_1]
      refine pk_le (zt_wds K H).length (k + 1) (fun _ => ?_) (fun z2 => absurd z2 (by omega))
      unfold wL_holds_94
      exact br_t rfl (br_t (by decide) (nm_r (nI_1 k) (ih (k + 1) (by omega) _ _ _ _ _ _ _ _ _ _ _ _ _ _ _ _ _ (zt_B_A hB3))))
section
variable {ft fc fn fl fu : Int32} {a1 a2 a3 a4 a5 a6 a7 a8 a9 a10 a11 a12 : Nat → Int32}
theorem zt_holds {post : Int32 → St1 → Prop} {w r : Nat} (h : zt_I (ft, fc, fn, fl, fu, a1, a2, a3, a4, a5, a6, a7, a8, a9, a10, a11, a12)) (hw : zt_word w) (hr : zt_row r) (hq : ∀ u, zt_I u → post 1 u) : wpL_holds post (ft, fc, fn, fl, fu, a1, a2, a3, a4, a5, a6, a7, a8, a9, a10, a11, a12) (nI w) (nI r) := by
  obtain ⟨K, H, fr, hA⟩ := h
  have hA' := hA
  obtain ⟨hT, hR, hn, h40, _⟩ := hA
  unfold wpL_holds
  show ((fn < 0 → _) ∧ (¬ fn < 0 → _))
  refine br_f (by rw [hn]; exact nI_pos (by omega)) (br_f (by rw [hn]; exact nI_nlt (b := (zt_wds K H).length) (a := 40) h40 (by omega)) ?_)
  refine zt_count (r := 1) hA' ⟨by decide, by decide, by decide⟩ ?_
  rintro ⟨ft', fc', fn', fl', fu', a1', a2', a3', a4', a5', a6', a7', a8', a9', a10', a11', a12'⟩ hB
  dsimp only
  rw [zt_all hT.1, hn]
  exact br_t rfl ⟨_, zt_h29 hw hr hq (zt_wds K H).length 0 (by omega) _ _ _ _ _ _ _ _ _ _ _ _ _ _ _ _ _ (zt_B_A hB)⟩
theorem zt_turn {post : St1 → Prop} {op d : Int32} {w : Nat} (h : zt_I (ft, fc, fn, fl, fu, a1, a2, a3, a4, a5, a6, a7, a8, a9, a10, a11, a12)) (hw : zt_word w) (hq : ∀ u, zt_I u → post u) : wpL_turn post (ft, fc, fn, fl, fu, a1, a2, a3, a4, a5, a6, a7, a8, a9, a10, a11, a12) op (nI w) d := by
  have hwl := zt_row_lt hw.2
  have e3 : nI w >>> ((3 : Int32) &&& 31) = nI (w / 2 ^ 3) := pk_shrN (by omega) _ 3 (by decide)
  have e7 : nI w &&& 7 = nI (w % 2 ^ 3) := pk_andN (by omega) 3 (by decide)
  have e64 : (64 : Int32) + nI (w % 2 ^ 3) = nI (64 + w % 2 ^ 3) := by rw [show (64 : Int32) = nI 64 from rfl, nI_add]
  unfold wpL_turn
  refine br_c (fun _ => br_c (fun _ => br_c (fun _ => zt_sow h (by omega) ?_) (fun _ => br_c (fun _ => zt_sow h (by omega) ?_) (fun _ => br_c (fun _ => zt_clear h (by omega) ?_) (fun _ => br_c (fun _ => ?_) (fun _ => hq _ h))))) (fun _ => zt_remove h (by omega) ?_)) (fun _ => zt_put h (by omega) ?_)
  · rintro r ⟨ft', fc', fn', fl', fu', a1', a2', a3', a4', a5', a6', a7', a8', a9', a10', a11', a12'⟩ h'
    exact hq _ h'
  · rintro r ⟨ft', fc', fn', fl', fu', a1', a2', a3', a4', a5', a6', a7', a8', a9', a10', a11', a12'⟩ h'
    exact hq _ h'
  · rintro r ⟨ft', fc', fn', fl', fu', a1', a2', a3', a4', a5', a6', a7', a8', a9', a10', a11', a12'⟩ h'
    exact hq _ h'
  · rw [e3, e7, e64]
    refine br_c (fun _ => ?_) (fun _ => ?_)
    · unfold wL_turn_144
      refine zt_clear h (by omega) ?_
      rintro r ⟨ft', fc', fn', fl', fu', a1', a2', a3', a4', a5', a6', a7', a8', a9', a10', a11', a12'⟩ h'
      exact hq _ h'
    · unfold wL_turn_144
      refine zt_clear h (by omega) ?_
      rintro r ⟨ft', fc', fn', fl', fu', a1', a2', a3', a4', a5', a6', a7', a8', a9', a10', a11', a12'⟩ h'
      exact hq _ h'
  · rintro r ⟨ft', fc', fn', fl', fu', a1', a2', a3', a4', a5', a6', a7', a8', a9', a10', a11', a12'⟩ h'
    exact hq _ h'
  · rintro r ⟨ft', fc', fn', fl', fu', a1', a2', a3', a4', a5', a6', a7', a8', a9', a10', a11', a12'⟩ h'
    exact hq _ h'
end
theorem zt_lawL {xs : Nat → Int32} {L kc ks : Nat} (hL : L ≤ 260) : ∀ d x, L ≤ x + d → x ≤ 1000 → ∀ ft fc fn fl fu a1 a2 a3 a4 a5 a6 a7 a8 a9 a10 a11 a12, zt_I (ft, fc, fn, fl, fu, a1, a2, a3, a4, a5, a6, a7, a8, a9, a10, a11, a12) → wL_law_10 (fun r => r = 1) L xs kc ks (d + 1) (nI x) ft fc fn fl fu a1 a2 a3 a4 a5 a6 a7 a8 a9 a10 a11 a12 := by
  intro d
  induction d with
  | zero =>
    intro x hx hx2 ft fc fn fl fu a1 a2 a3 a4 a5 a6 a7 a8 a9 a10 a11 a12 h
    exact pk_le L x (fun _ => rfl) (fun z => absurd z (by omega))
  | succ d ih =>
    intro x hx hx2 ft fc fn fl fu a1 a2 a3 a4 a5 a6 a7 a8 a9 a10 a11 a12 h
    refine pk_le L x (fun _ => rfl) (fun z => zt_cell (by omega) (by omega) (fun c => ?_))
    rw [nI_1]
    refine zt_cell (by omega) (by omega) (fun dd => zt_lword (fun w hw => zt_turn h hw ?_))
    rintro ⟨ft', fc', fn', fl', fu', a1', a2', a3', a4', a5', a6', a7', a8', a9', a10', a11', a12'⟩ h'
    have main : ∀ v r, zt_word v → zt_row r → wL_law_77 (fun r => r = 1) L xs (wL_law_10 (fun r => r = 1) L xs kc ks (d + 1)) (nI x) (nI r) (nI v) kc ks ft' fc' fn' fl' fu' a1' a2' a3' a4' a5' a6' a7' a8' a9' a10' a11' a12' := by
      intro v r hv hr
      unfold wL_law_77
      refine zt_holds h' hv hr ?_
      rintro ⟨ft2, fc2, fn2, fl2, fu2, a12, a22, a32, a42, a52, a62, a72, a82, a92, a102, a112, a122⟩ h2
      refine br_f (by decide) (nm_r (e' := nI (x + 2)) (by rw [show (2 : Int32) = nI 2 from rfl, nI_add]) ?_)
      exact ih (x + 2) (by omega) (by omega) _ _ _ _ _ _ _ _ _ _ _ _ _ _ _ _ _ h2
    refine zt_lword (fun v hv => br_c (fun _ => ?_) (fun _ => main v v hv hv.2))
    exact main v 1 hv ⟨by decide, by decide, by decide⟩
def zt_fr0 : List Nat := (List.range 122).reverse
theorem zt_fr0_at : ∀ i, i < 122 → zt_fr0.getD i 0 = 121 - i := by decide +kernel
theorem zt_init0 (a1 a2 a3 a4 a5 a6 a7 a8 a9 a10 a11 a12 : Nat → Int32) (h7 : ∀ i, i < 122 → a7 i = nI (121 - i)) : zt_I (-1, 122, 0, 0, 0, a1, a2, a3, a4, a5, a6, a7, a8, a9, a10, a11, a12) := by
  refine ⟨fun _ => [], fun _ => false, zt_fr0, ⟨⟨fun p => List.Pairwise.nil, (fun p n hn => by cases hn), (fun p s hs => by simp [zt_ss] at hs), fun p s _ => ⟨rfl, rfl⟩, fun _ _ => rfl, rfl, fun p => List.nodup_nil, (fun p q b hb => by simp [zt_ns] at hb)⟩, rfl, fun p => trivial, (fun p n c s hn => by cases hn)⟩, ⟨by decide, fun i hi => ?_, by decide +kernel, fun b => ?_⟩, by decide, by decide, Or.inl rfl⟩
  · have hi' : i < 122 := hi
    rw [h7 i hi', zt_fr0_at i hi']
  · unfold zt_fr0
    rw [List.mem_reverse, List.mem_range]
    constructor
    · intro k
      exact ⟨k, fun p hp => by simp [zt_ns] at hp⟩
    · exact fun k => k.1
theorem i_vc (xs : Nat → Int32) (L : Nat) (hL : L ≤ 260) : wpL_law (fun r => r = 1) L xs := by
  unfold wpL_law
  refine ⟨12, 2407, by decide, by decide, ?_⟩
  unfold wpX_init
  refine ⟨by decide, by decide, by decide, by decide, by decide, by decide, by decide, by decide, by decide, by decide, by decide, by decide, by decide, by decide, by decide, by decide, by decide, by decide, by decide, by decide, by decide, by decide, by decide, by decide, ?_⟩
  refine pk_loop (σ := Nat → Int32) (fun n i s => wX_init_108 (fun u => match u with
    | (ft, fc, fn, fl, fu, a1, a2, a3, a4, a5, a6, a7, a8, a9, a10, a11, a12) => ∃ fu10 : Nat, wL_law_10 (fun r => r = 1) L xs (1 + 12) (17 + 2407) fu10 0 ft fc fn fl fu a1 a2 a3 a4 a5 a6 a7 a8 a9 a10 a11 a12) 12 2407 12 2407 (-1) 0 0 0 0 n (nI i) (fun _ => 0) (fun _ => 0) (fun _ => 0) (fun _ => 0) (fun _ => 0) (fun _ => 0) s (fun _ => 0) (fun _ => 0) (fun _ => 0) (fun _ => 0) (fun _ => 0)) (fun i s => ∀ j, j < i → s j = nI (121 - j)) 122 0 (fun _ => 0) (by omega) (fun j hj => absurd hj (by omega)) ?_ ?_
  · intro n s hI
    refine pk_le 122 122 (fun _ => ?_) (fun z => absurd z (by omega))
    exact ⟨_, zt_lawL hL L 0 (by omega) (by omega) _ _ _ _ _ _ _ _ _ _ _ _ _ _ _ _ _ (zt_init0 _ _ _ _ _ _ s _ _ _ _ _ hI)⟩
  · intro n i s hi hI hw
    refine pk_le 122 i (fun z => absurd z (by omega)) (fun _ => ⟨pk_in i 122 hi, ?_⟩)
    rw [nI_clamp (by omega), show (121 : Int32) - nI i = nI (121 - i) by rw [show (121 : Int32) = nI 121 from rfl, pk_sub (by omega)]]
    refine nm_e (nm_r (nI_1 i) (hw _ (fun j hj => ?_)))
    by_cases k : j = i
    · rw [k, pk_us]
    · rw [pk_un k]
      exact hI j (by omega)
end
