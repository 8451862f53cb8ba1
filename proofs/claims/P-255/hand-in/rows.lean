section
theorem pk_us {f : Nat → Int32} {k : Nat} {x : Int32} : upd f k x k = x := if_pos rfl
theorem pk_un {f : Nat → Int32} {k j : Nat} {x : Int32} (h : j ≠ k) : upd f k x j = f j := if_neg h
theorem pk_uLs {f : Nat → Int64} {k : Nat} {x : Int64} : vp_updL f k x k = x := if_pos rfl
theorem pk_uLn {f : Nat → Int64} {k j : Nat} {x : Int64} (h : j ≠ k) : vp_updL f k x j = f j := if_neg h
theorem pk_m1 (n : Nat) : nI (n + 1) + (-1) = nI n := by
  rw [← nI_1, Int32.add_assoc, show (1 : Int32) + (-1) = 0 from rfl, Int32.add_zero]
theorem pk_tn {n : Nat} (h : n < 2 ^ 32) : (nI n).toBitVec.toNat = n := Nat.mod_eq_of_lt h
theorem pk_and (x : Int32) {m : Int32} (k : Nat) (hm : m.toBitVec.toNat = 2 ^ k - 1) : x &&& m = nI (x.toBitVec.toNat % 2 ^ k) := by
  apply Int32.toBitVec_inj.mp
  apply BitVec.eq_of_toNat_eq
  rw [Int32.toBitVec_and, BitVec.toNat_and, hm, Nat.and_two_pow_sub_one_eq_mod]
  show _ = (BitVec.ofNat 32 _).toNat
  rw [BitVec.toNat_ofNat]
  exact (Nat.mod_eq_of_lt (Nat.lt_of_le_of_lt (Nat.mod_le _ _) x.toBitVec.isLt)).symm
theorem pk_andN {n : Nat} (h : n < 2 ^ 32) {m : Int32} (k : Nat) (hm : m.toBitVec.toNat = 2 ^ k - 1) : nI n &&& m = nI (n % 2 ^ k) := by
  rw [pk_and _ k hm, pk_tn h]

/-! match codes: 0 is -1, n + 1 is n -/
def zs_mv : Nat → Int32
  | 0 => -1
  | n + 1 => nI n
theorem zs_mvs (n : Nat) : zs_mv (n + 1) = nI n := rfl
theorem zs_m1 : ∀ n : Nat, nI n - 1 = zs_mv n
  | 0 => by decide +kernel
  | n + 1 => nI_pred n
theorem zs_mp : ∀ n : Nat, zs_mv (n + 1) + (-1) = zs_mv n
  | 0 => by decide +kernel
  | n + 1 => pk_m1 n
theorem zs_mi {n : Nat} (h : n ≤ 100) : (zs_mv n).toInt = (n : Int) - 1 := by
  cases n with
  | zero => decide +kernel
  | succ n =>
    show (nI n).toInt = _
    rw [nI_toInt (by omega)]
    omega
theorem zs_mlt {j a : Nat} (hj : j ≤ 100) (ha : a ≤ 100) : zs_mv j < nI a ↔ j ≤ a := by
  rw [Int32.lt_iff_toInt_lt, zs_mi hj, nI_toInt (by omega)]
  omega
theorem zs_mle {j a : Nat} (hj : j ≤ 100) (ha : a ≤ 100) : zs_mv j ≤ nI a ↔ j ≤ a + 1 := by
  rw [Int32.le_iff_toInt_le, zs_mi hj, nI_toInt (by omega)]
  omega
theorem zs_neg : zs_mv 0 < 0 := by decide +kernel
theorem zs_nn {j : Nat} (h : j ≤ 100) : ¬ zs_mv (j + 1) < 0 := nI_pos (n := j) (by omega)
theorem zs_nb0 : vp_nar .boolean 0 = 0 := rfl
theorem zs_nb1 : vp_nar .boolean 1 = 1 := rfl
theorem zs_nb {b : Int32} (h : b = 0 ∨ b = 1) : vp_nar .boolean b = b := by
  rcases h with h | h
  · rw [h]; rfl
  · rw [h]; rfl
theorem zs_and7 {n : Nat} (h : n < 8) : nI n &&& 7 = nI n := by
  rw [pk_andN (by omega) 3 (by decide), Nat.mod_eq_of_lt h]

/-! the first match at or above a, one added; 0: none -/
def zs_f (lN : Nat → Int32) (w : Int32) : Nat → Nat → Nat
  | 0, _ => 0
  | t + 1, a => if lN a = w then a + 1 else zs_f lN w t (a + 1)
theorem zs_f_spec (lN : Nat → Int32) (w : Int32) : ∀ t a : Nat, (zs_f lN w t a = 0 ∧ ∀ j, a ≤ j → j < a + t → lN j ≠ w) ∨ (∃ j, zs_f lN w t a = j + 1 ∧ a ≤ j ∧ j < a + t ∧ lN j = w ∧ ∀ i, a ≤ i → i < j → lN i ≠ w) := by
  intro t
  induction t with
  | zero => intro a; exact Or.inl ⟨rfl, fun j h1 h2 => absurd h2 (by omega)⟩
  | succ t ih =>
    intro a
    by_cases h : lN a = w
    · exact Or.inr ⟨a, if_pos h, Nat.le_refl a, by omega, h, fun i h1 h2 => absurd h2 (by omega)⟩
    · have e : zs_f lN w (t + 1) a = zs_f lN w t (a + 1) := if_neg h
      rw [e]
      rcases ih (a + 1) with ⟨h0, h1⟩ | ⟨j, h0, h1, h2, h3, h4⟩
      · refine Or.inl ⟨h0, fun j hj1 hj2 => ?_⟩
        by_cases hja : j = a
        · rw [hja]; exact h
        · exact h1 j (by omega) (by omega)
      · refine Or.inr ⟨j, h0, by omega, by omega, h3, fun i hi1 hi2 => ?_⟩
        by_cases hia : i = a
        · rw [hia]; exact h
        · exact h4 i (by omega) hi2
def zs_lo (sN lN : Nat → Int32) (E : Nat) : Nat → Nat
  | 0 => 0
  | d + 1 => if zs_f lN (sN d) (E - zs_lo sN lN E d) (zs_lo sN lN E d) = 0 then zs_lo sN lN E d else zs_f lN (sN d) (E - zs_lo sN lN E d) (zs_lo sN lN E d)
def zs_c (sN lN : Nat → Int32) (E d : Nat) : Nat := zs_f lN (sN d) (E - zs_lo sN lN E d) (zs_lo sN lN E d)
theorem zs_lo0 {sN lN : Nat → Int32} {E d : Nat} (h : zs_c sN lN E d = 0) : zs_lo sN lN E (d + 1) = zs_lo sN lN E d := if_pos h
theorem zs_lo1 {sN lN : Nat → Int32} {E d j : Nat} (h : zs_c sN lN E d = j + 1) : zs_lo sN lN E (d + 1) = j + 1 := by
  have hn : ¬ zs_c sN lN E d = 0 := by omega
  exact (if_neg hn).trans h
def zs_Sp (lN : Nat → Int32) (w : Int32) (a E c : Nat) : Prop :=
  (c = 0 ∧ ∀ j, a ≤ j → j < E → lN j ≠ w) ∨ (∃ j, c = j + 1 ∧ a ≤ j ∧ j < E ∧ lN j = w ∧ ∀ i, a ≤ i → i < j → lN i ≠ w)
theorem zs_c_spec0 {sN lN : Nat → Int32} {E d : Nat} (h : zs_lo sN lN E d ≤ E) : zs_Sp lN (sN d) (zs_lo sN lN E d) E (zs_c sN lN E d) := by
  have z := zs_f_spec lN (sN d) (E - zs_lo sN lN E d) (zs_lo sN lN E d)
  have e : zs_lo sN lN E d + (E - zs_lo sN lN E d) = E := by omega
  rw [e] at z
  exact z
theorem zs_lo_le (sN lN : Nat → Int32) (E : Nat) : ∀ d : Nat, zs_lo sN lN E d ≤ E := by
  intro d
  induction d with
  | zero => exact Nat.zero_le E
  | succ d ih =>
    rcases zs_c_spec0 ih with ⟨h, _⟩ | ⟨j, h, _, h2, _⟩
    · rw [zs_lo0 h]; exact ih
    · rw [zs_lo1 h]; omega
theorem zs_c_spec (sN lN : Nat → Int32) (E d : Nat) : zs_Sp lN (sN d) (zs_lo sN lN E d) E (zs_c sN lN E d) := zs_c_spec0 (zs_lo_le sN lN E d)
theorem zs_c_le (sN lN : Nat → Int32) (E d : Nat) : zs_c sN lN E d ≤ E := by
  rcases zs_c_spec sN lN E d with ⟨h, _⟩ | ⟨j, h, _, h2, _⟩
  · rw [h]; exact Nat.zero_le E
  · rw [h]; exact h2
theorem zs_c_in {sN lN : Nat → Int32} {E d j : Nat} (h : zs_c sN lN E d = j + 1) : zs_lo sN lN E d ≤ j ∧ j < E := by
  rcases zs_c_spec sN lN E d with ⟨h0, _⟩ | ⟨i, h0, h1, h2, _⟩
  · rw [h] at h0; exact absurd h0 (by omega)
  · rw [h] at h0
    have e : j = i := by omega
    rw [e]; exact ⟨h1, h2⟩

/-! the slots as lists of (number, data) -/
def zs_up (a : Nat) : Nat → List (Int32 × Int32)
  | 0 => []
  | k + 1 => zs_up a k ++ [(nI (a + k), 0)]
theorem zs_up_len (a : Nat) : ∀ k : Nat, (zs_up a k).length = k := by
  intro k
  induction k with
  | zero => rfl
  | succ k ih =>
    show (zs_up a k ++ [(nI (a + k), 0)]).length = k + 1
    rw [List.length_append, ih]
    rfl
theorem zs_up_rev {a i : Nat} (h : a ≤ i) : (zs_up a (i + 1 - a)).reverse = (zs_mv (i + 1), 0) :: (zs_up a (i - a)).reverse := by
  have e : i + 1 - a = (i - a) + 1 := by omega
  have e2 : a + (i - a) = i := by omega
  rw [e]
  show (zs_up a (i - a) ++ [(nI (a + (i - a)), 0)]).reverse = _
  rw [e2, List.reverse_append]
  rfl
def zs_sg (sN lN : Nat → Int32) (E d : Nat) : List (Int32 × Int32) :=
  if zs_c sN lN E d = 0 then [(zs_mv 0, 1)] else zs_up (zs_lo sN lN E d) (zs_c sN lN E d - 1 - zs_lo sN lN E d) ++ [(zs_mv (zs_c sN lN E d), 1)]
theorem zs_sg0 {sN lN : Nat → Int32} {E d : Nat} (h : zs_c sN lN E d = 0) : zs_sg sN lN E d = [(zs_mv 0, 1)] := if_pos h
theorem zs_sg1 {sN lN : Nat → Int32} {E d j : Nat} (h : zs_c sN lN E d = j + 1) : zs_sg sN lN E d = zs_up (zs_lo sN lN E d) (j - zs_lo sN lN E d) ++ [(zs_mv (j + 1), 1)] := by
  have hn : ¬ zs_c sN lN E d = 0 := by omega
  unfold zs_sg
  rw [if_neg hn, h]
  rfl
def zs_L (sN lN : Nat → Int32) (E : Nat) : Nat → List (Int32 × Int32)
  | 0 => []
  | d + 1 => zs_L sN lN E d ++ zs_sg sN lN E d
theorem zs_L0 {sN lN : Nat → Int32} {E d : Nat} (h : zs_c sN lN E d = 0) : zs_L sN lN E (d + 1) = zs_L sN lN E d ++ [(zs_mv 0, 1)] := by
  show zs_L sN lN E d ++ zs_sg sN lN E d = _
  rw [zs_sg0 h]
theorem zs_L1 {sN lN : Nat → Int32} {E d j : Nat} (h : zs_c sN lN E d = j + 1) : zs_L sN lN E (d + 1) = zs_L sN lN E d ++ (zs_up (zs_lo sN lN E d) (j - zs_lo sN lN E d) ++ [(zs_mv (j + 1), 1)]) := by
  show zs_L sN lN E d ++ zs_sg sN lN E d = _
  rw [zs_sg1 h]
theorem zs_L0_len {sN lN : Nat → Int32} {E d : Nat} (h : zs_c sN lN E d = 0) : (zs_L sN lN E (d + 1)).length = (zs_L sN lN E d).length + 1 := by
  rw [zs_L0 h, List.length_append]
  rfl
theorem zs_L1_len {sN lN : Nat → Int32} {E d j : Nat} (h : zs_c sN lN E d = j + 1) : (zs_L sN lN E (d + 1)).length = (zs_L sN lN E d).length + (j - zs_lo sN lN E d) + 1 := by
  rw [zs_L1 h, List.length_append, List.length_append, zs_up_len]
  rfl
theorem zs_L_len (sN lN : Nat → Int32) (E : Nat) : ∀ d : Nat, (zs_L sN lN E d).length ≤ zs_lo sN lN E d + d := by
  intro d
  induction d with
  | zero => exact Nat.zero_le _
  | succ d ih =>
    rcases zs_c_spec sN lN E d with ⟨h, _⟩ | ⟨j, h, h1, h2, _⟩
    · rw [zs_L0_len h, zs_lo0 h]; omega
    · rw [zs_L1_len h, zs_lo1 h]; omega
def zs_T (sN lN : Nat → Int32) (E s : Nat) : List (Int32 × Int32) := zs_L sN lN E s ++ zs_up (zs_lo sN lN E s) (E - zs_lo sN lN E s)
theorem zs_T_len (sN lN : Nat → Int32) (E s : Nat) : (zs_T sN lN E s).length = (zs_L sN lN E s).length + (E - zs_lo sN lN E s) := by
  unfold zs_T
  rw [List.length_append, zs_up_len]
theorem zs_T_le (sN lN : Nat → Int32) {E s : Nat} (hE : E ≤ 4) (hs : s ≤ 4) : (zs_T sN lN E s).length ≤ 8 := by
  have h1 := zs_L_len sN lN E s
  have h2 := zs_lo_le sN lN E s
  rw [zs_T_len]
  omega
def zs_B (L : List (Int32 × Int32)) : Prop := ∀ x, x ∈ L → (x.2 = 0 ∨ x.2 = 1)
theorem zs_B_app {A B : List (Int32 × Int32)} (h1 : zs_B A) (h2 : zs_B B) : zs_B (A ++ B) := fun x hx => (List.mem_append.mp hx).elim (h1 x) (h2 x)
theorem zs_B_one {v b : Int32} (h : b = 0 ∨ b = 1) : zs_B [(v, b)] := by
  intro x hx
  rw [List.mem_singleton.mp hx]
  exact h
theorem zs_B_nil : zs_B [] := by
  intro x hx
  cases hx
theorem zs_B_up (a : Nat) : ∀ k : Nat, zs_B (zs_up a k) := by
  intro k
  induction k with
  | zero => exact zs_B_nil
  | succ k ih => exact zs_B_app ih (zs_B_one (Or.inl rfl))
theorem zs_B_L (sN lN : Nat → Int32) (E : Nat) : ∀ d : Nat, zs_B (zs_L sN lN E d) := by
  intro d
  induction d with
  | zero => exact zs_B_nil
  | succ d ih =>
    rcases zs_c_spec sN lN E d with ⟨h, _⟩ | ⟨j, h, h1, h2, _⟩
    · rw [zs_L0 h]; exact zs_B_app ih (zs_B_one (Or.inr rfl))
    · rw [zs_L1 h]; exact zs_B_app ih (zs_B_app (zs_B_up _ _) (zs_B_one (Or.inr rfl)))
theorem zs_B_T (sN lN : Nat → Int32) (E s : Nat) : zs_B (zs_T sN lN E s) := zs_B_app (zs_B_L sN lN E s) (zs_B_up _ _)

/-! arrays that hold a list -/
theorem zs_app {P : Nat → Int32 × Int32 → Prop} {L : List (Int32 × Int32)} {y : Int32 × Int32} (h : ∀ i x, i < L.length → L[i]? = some x → P i x) (hy : P L.length y) : ∀ i x, (L ++ [y])[i]? = some x → P i x := by
  intro i x hx
  by_cases hi : i < L.length
  · rw [List.getElem?_append_left hi] at hx
    exact h i x hi hx
  · have hi2 : L.length ≤ i := by omega
    rw [List.getElem?_append_right hi2] at hx
    by_cases h0 : i = L.length
    · rw [h0, Nat.sub_self] at hx
      have e : y = x := by simpa using hx
      rw [h0, ← e]
      exact hy
    · obtain ⟨k, hk⟩ : ∃ k, i - L.length = k + 1 := ⟨i - L.length - 1, by omega⟩
      rw [hk] at hx
      simp at hx
def zs_S (sc sd : Nat → Int32) (L : List (Int32 × Int32)) : Prop := ∀ i x, L[i]? = some x → sc i = x.1 ∧ sd i = x.2
theorem zs_S_nil {sc sd : Nat → Int32} : zs_S sc sd [] := by
  intro i x hx
  simp at hx
theorem zs_S_put {sc sd : Nat → Int32} {L : List (Int32 × Int32)} {v b : Int32} (h : zs_S sc sd L) : zs_S (upd sc L.length v) (upd sd L.length b) (L ++ [(v, b)]) := by
  refine zs_app (P := fun i x => upd sc L.length v i = x.1 ∧ upd sd L.length b i = x.2) (fun i x hi hx => ?_) ⟨pk_us, pk_us⟩
  have hne : i ≠ L.length := by omega
  have ⟨h1, h2⟩ := h i x hx
  exact ⟨(pk_un hne).trans h1, (pk_un hne).trans h2⟩
theorem zs_S_n {sc sd : Nat → Int32} {L : List (Int32 × Int32)} {n : Nat} {v b : Int32} (h : zs_S sc sd L) (hn : n = L.length) : zs_S (upd sc n v) (upd sd n b) (L ++ [(v, b)]) := by
  rw [hn]
  exact zs_S_put h
def zs_G (w v b : Int32) : Prop := (w >>> ((1 : Int32) &&& 31)) - 1 = v ∧ w &&& 1 = b ∧ (b = 0 ∨ b = 1)
theorem zs_Genc {c : Nat} (hc : c ≤ 4) {b : Int32} (hb : b = 0 ∨ b = 1) : zs_G (vp_nar .char (((((zs_mv c + 1) * 2) + b).toUInt32 % 65536).toInt32)) (zs_mv c) b := by
  rw [vp_nar_char]
  have h5 : c = 0 ∨ c = 1 ∨ c = 2 ∨ c = 3 ∨ c = 4 := by omega
  unfold zs_G
  rcases hb with rfl | rfl <;> rcases h5 with rfl | rfl | rfl | rfl | rfl <;> decide +kernel
def zs_Z (sl : Nat → Int32) (R : List (Int32 × Int32)) : Prop := ∀ i x, R[i]? = some x → zs_G (sl i) x.1 x.2
theorem zs_Z_nil {sl : Nat → Int32} : zs_Z sl [] := by
  intro i x hx
  simp at hx
theorem zs_Z_put {sl : Nat → Int32} {R : List (Int32 × Int32)} {w v b : Int32} (h : zs_Z sl R) (hw : zs_G w v b) : zs_Z (upd sl R.length w) (R ++ [(v, b)]) := by
  refine zs_app (P := fun i x => zs_G (upd sl R.length w i) x.1 x.2) (fun i x hi hx => ?_) ?_
  · have hne : i ≠ R.length := by omega
    show zs_G (upd sl R.length w i) x.1 x.2
    rw [pk_un hne]
    exact h i x hx
  · show zs_G (upd sl R.length w R.length) v b
    rw [pk_us]
    exact hw

/-! the reversal -/
def zs_rv (f g : Nat → Int32) (n t : Nat) : Prop := ∀ i, i < n → g i = if i < t ∨ n - t ≤ i then f (n - 1 - i) else f i
theorem zs_rv0 {f : Nat → Int32} {n : Nat} : zs_rv f f n 0 := by
  intro i hi
  exact (if_neg (by omega)).symm
theorem zs_rv_s {f g : Nat → Int32} {n t b : Nat} (h : zs_rv f g n t) (ht : t < b) (hb : n - t = b + 1) : zs_rv f (upd (upd g t (g b)) b (g t)) n (t + 1) := by
  have e1 : g t = f t := (h t (by omega)).trans (if_neg (by omega))
  have e2 : g b = f b := (h b (by omega)).trans (if_neg (by omega))
  intro i hi
  by_cases h1 : i = b
  · rw [h1, pk_us, e1]
    have e : t = n - 1 - b := by omega
    exact (congrArg f e).trans (if_pos (by omega)).symm
  · rw [pk_un h1]
    by_cases h2 : i = t
    · rw [h2, pk_us, e2]
      have e : b = n - 1 - t := by omega
      exact (congrArg f e).trans (if_pos (by omega)).symm
    · rw [pk_un h2, h i hi]
      by_cases h3 : i < t ∨ n - t ≤ i
      · exact (if_pos h3).trans (if_pos (by omega)).symm
      · exact (if_neg h3).trans (if_neg (by omega)).symm
theorem zs_rv_end {f g : Nat → Int32} {n t : Nat} (h : zs_rv f g n t) (ht : n - t ≤ t + 1) : ∀ i, i < n → g i = f (n - 1 - i) := by
  intro i hi
  by_cases h3 : i < t ∨ n - t ≤ i
  · exact (h i hi).trans (if_pos h3)
  · have e : i = n - 1 - i := by omega
    exact ((h i hi).trans (if_neg h3)).trans (congrArg f e)
theorem zs_rev_get {T : List (Int32 × Int32)} {i : Nat} {x : Int32 × Int32} (h : T.reverse[i]? = some x) : i < T.length ∧ T[T.length - 1 - i]? = some x := by
  have hi : i < T.length := by
    have h1 := (List.getElem?_eq_some_iff.mp h).1
    rw [List.length_reverse] at h1
    exact h1
  rw [List.getElem?_reverse hi] at h
  exact ⟨hi, h⟩

/-! the first entry without data, and the outcome of the passes -/
theorem zs_first (p : Nat → Prop) : ∀ l : Nat, ∃ E, E ≤ l ∧ (∀ i, i < E → ¬ p i) ∧ (E = l ∨ p E) := by
  intro l
  induction l with
  | zero => exact ⟨0, Nat.le_refl 0, fun i hi => absurd hi (by omega), Or.inl rfl⟩
  | succ l ih =>
    obtain ⟨E, h1, h2, h3⟩ := ih
    rcases h3 with h3 | h3
    · by_cases hp : p l
      · exact ⟨E, by omega, h2, Or.inr (by rw [h3]; exact hp)⟩
      · refine ⟨l + 1, Nat.le_refl _, fun i hi => ?_, Or.inl rfl⟩
        by_cases hil : i = l
        · rw [hil]; exact hp
        · exact h2 i (by omega)
    · exact ⟨E, by omega, h2, Or.inr h3⟩
noncomputable def zs_ite (P : Prop) (a b : Option Int32) : Option Int32 := @ite (Option Int32) P (Classical.propDecidable P) a b
theorem zs_ite_t {P : Prop} {a b : Option Int32} (h : P) : zs_ite P a b = a := by unfold zs_ite; rw [if_pos h]
theorem zs_ite_f {P : Prop} {a b : Option Int32} (h : ¬ P) : zs_ite P a b = b := by unfold zs_ite; rw [if_neg h]
def zs_Du (sN : Nat → Int32) (d : Nat) : Prop := ∃ e, e < d ∧ sN e = sN d
noncomputable def zs_res (cf : Nat → Nat → Int32) (sN lN : Nat → Int32) (E : Nat) : Nat → Nat → Option Int32
  | 0, _ => none
  | k + 1, d => zs_ite (zs_Du sN d) (some (-6)) (zs_ite (zs_c sN lN E d = 0) (zs_res cf sN lN E k (d + 1)) (zs_ite (0 ≤ cf d (zs_c sN lN E d - 1)) (zs_res cf sN lN E k (d + 1)) (some (cf d (zs_c sN lN E d - 1)))))
theorem zs_res6 {cf : Nat → Nat → Int32} {sN lN : Nat → Int32} {E k d : Nat} (h : zs_Du sN d) : zs_res cf sN lN E (k + 1) d = some (-6) := zs_ite_t h
theorem zs_res0 {cf : Nat → Nat → Int32} {sN lN : Nat → Int32} {E k d : Nat} (h : ¬ zs_Du sN d) (h0 : zs_c sN lN E d = 0) : zs_res cf sN lN E (k + 1) d = zs_res cf sN lN E k (d + 1) := (zs_ite_f h).trans (zs_ite_t h0)
theorem zs_res1 {cf : Nat → Nat → Int32} {sN lN : Nat → Int32} {E k d j : Nat} (h : ¬ zs_Du sN d) (h1 : zs_c sN lN E d = j + 1) (hp : 0 ≤ cf d j) : zs_res cf sN lN E (k + 1) d = zs_res cf sN lN E k (d + 1) := by
  have hn : ¬ zs_c sN lN E d = 0 := by omega
  have e : zs_c sN lN E d - 1 = j := by omega
  refine (zs_ite_f h).trans ((zs_ite_f hn).trans (zs_ite_t ?_))
  rw [e]; exact hp
theorem zs_resm {cf : Nat → Nat → Int32} {sN lN : Nat → Int32} {E k d j : Nat} (h : ¬ zs_Du sN d) (h1 : zs_c sN lN E d = j + 1) (hp : ¬ 0 ≤ cf d j) : zs_res cf sN lN E (k + 1) d = some (cf d j) := by
  have hn : ¬ zs_c sN lN E d = 0 := by omega
  have e : zs_c sN lN E d - 1 = j := by omega
  refine (zs_ite_f h).trans ((zs_ite_f hn).trans ?_)
  rw [e]
  exact zs_ite_f hp
end
section
def zs_b (x m : Int32) : Int32 := if x &&& m = 0 then 0 else 1
theorem zs_b0 {x m : Int32} (h : x &&& m = 0) : zs_b x m = 0 := if_pos h
theorem zs_b1 {x m : Int32} (h : ¬ x &&& m = 0) : zs_b x m = 1 := if_neg h
theorem zs_bz {x m : Int32} : zs_b x m = 0 ↔ x &&& m = 0 := by
  by_cases h : x &&& m = 0
  · rw [zs_b0 h]; exact ⟨fun _ => h, fun _ => rfl⟩
  · rw [zs_b1 h]; exact ⟨fun z => absurd z (by decide), fun z => absurd z h⟩
theorem zs_bb {W : Int32 → Prop} {x m : Int32} (h : W (zs_b x m)) : (x &&& m = 0 → W 0) ∧ (¬ x &&& m = 0 → W 1) :=
  ⟨fun e => by rw [zs_b0 e] at h; exact h, fun e => by rw [zs_b1 e] at h; exact h⟩
theorem zs_it {q : Int32 → Prop} {c : Prop} [Decidable c] {a b : Int32} {A B : Prop} (h : q (if c then a else b)) (ha : q a → A) (hb : q b → B) : (c → A) ∧ (¬ c → B) :=
  ⟨fun e => ha (by rw [if_pos e] at h; exact h), fun e => hb (by rw [if_neg e] at h; exact h)⟩
theorem zs_iti {q : Int32 → Prop} {c c' : Prop} [Decidable c] {a b : Int32} {A B : Prop} (i : c' ↔ c) (h : q (if c then a else b)) (ha : q a → A) (hb : q b → B) : (c' → A) ∧ (¬ c' → B) :=
  ⟨fun e => ha (by rw [if_pos (i.mp e)] at h; exact h), fun e => hb (by rw [if_neg (fun z => e (i.mpr z))] at h; exact h)⟩
def zs_cf3 (x7 x8 x9 x10 : Int32) : Int32 := if x9 = x10 then (if x7 = x8 then (if x9 = 0 then 1 else 0) else 1) else 1
def zs_cf2 (sn ln x5 x7 x8 x9 x10 : Int32) : Int32 := if sn = ln then (if x5 = 0 then (if x9 = x10 then (if x7 = x8 then zs_cf3 x7 x8 x9 x10 else -5) else zs_cf3 x7 x8 x9 x10) else 0) else -4
def zs_cf1 (x4 : Int32) (su lu : Int64) (sn ln x5 x6 x7 x8 x9 x10 : Int32) : Int32 := if x5 = x6 then (if x9 = x10 then (if x4 &&& 96 = 0 then (if su = lu then zs_cf2 sn ln x5 x7 x8 x9 x10 else -3) else zs_cf2 sn ln x5 x7 x8 x9 x10) else zs_cf2 sn ln x5 x7 x8 x9 x10) else -2
def zs_cf (sf lf : Int32) (su lu : Int64) (sn ln : Int32) : Int32 := zs_cf1 lf su lu sn ln (zs_b sf 16) (zs_b lf 16) (zs_b sf 4) (zs_b lf 4) (zs_b sf 6) (zs_b lf 6)
theorem zs_cf3t {x7 x8 x9 x10 : Int32} (e : x9 = x10) : zs_cf3 x7 x8 x9 x10 = if x7 = x8 then (if x9 = 0 then 1 else 0) else 1 := if_pos e
theorem zs_cf3f {x7 x8 x9 x10 : Int32} (e : ¬ x9 = x10) : zs_cf3 x7 x8 x9 x10 = 1 := if_neg e
theorem zs_cf2t {sn ln x5 x7 x8 x9 x10 : Int32} (e : x9 = x10) : zs_cf2 sn ln x5 x7 x8 x9 x10 = if sn = ln then (if x5 = 0 then (if x7 = x8 then zs_cf3 x7 x8 x9 x10 else -5) else 0) else -4 := by
  unfold zs_cf2
  rw [if_pos e]
theorem zs_cf2f {sn ln x5 x7 x8 x9 x10 : Int32} (e : ¬ x9 = x10) : zs_cf2 sn ln x5 x7 x8 x9 x10 = if sn = ln then (if x5 = 0 then zs_cf3 x7 x8 x9 x10 else 0) else -4 := by
  unfold zs_cf2
  rw [if_neg e]
theorem zs_cf1t {x4 : Int32} {su lu : Int64} {sn ln x5 x6 x7 x8 x9 x10 : Int32} (e : x9 = x10) : zs_cf1 x4 su lu sn ln x5 x6 x7 x8 x9 x10 = if x5 = x6 then (if x4 &&& 96 = 0 then (if su = lu then zs_cf2 sn ln x5 x7 x8 x9 x10 else -3) else zs_cf2 sn ln x5 x7 x8 x9 x10) else -2 := by
  unfold zs_cf1
  rw [if_pos e]
theorem zs_cf1f {x4 : Int32} {su lu : Int64} {sn ln x5 x6 x7 x8 x9 x10 : Int32} (e : ¬ x9 = x10) : zs_cf1 x4 su lu sn ln x5 x6 x7 x8 x9 x10 = if x5 = x6 then zs_cf2 sn ln x5 x7 x8 x9 x10 else -2 := by
  unfold zs_cf1
  rw [if_neg e]

section
variable {q : Int32 → Prop} {f1 f2 f3 : Int32} {sN lN sF lF sc sd : Nat → Int32} {sU lU : Nat → Int64}
theorem zs_k212 {x7 x8 x9 x10 : Int32} (h : q (zs_cf3 x7 x8 x9 x10)) : wX_compatible_212 q x7 x8 x9 x10 f1 f2 f3 sN sU sF lN lU lF sc sd := by
  unfold zs_cf3 at h
  exact zs_it h (fun h => zs_it h (fun h => zs_it h id id) id) id
theorem zs_k170 {i j : Nat} {x5 x7 x8 x9 x10 : Int32} (hi : i < 4) (hj : j < 4) (h : q (zs_cf2 (sN i) (lN j) x5 x7 x8 x9 x10)) : wX_compatible_170 q (nI i) (nI j) x5 x7 x8 x9 x10 f1 f2 f3 sN sU sF lN lU lF sc sd := by
  unfold zs_cf2 at h
  refine And.intro (vp_in_nI hi (by omega)) ⟨vp_in_nI hj (by omega), ?_⟩
  rw [nI_clamp (n := i) (by omega), nI_clamp (n := j) (by omega)]
  exact zs_it h (fun h => zs_it h (fun h => zs_it h (fun h => zs_it h (fun h => zs_k212 h) id) (fun h => zs_k212 h)) id) id
theorem zs_k124 {i j : Nat} {x4 x5 x6 x7 x8 x9 x10 : Int32} (hi : i < 4) (hj : j < 4) (h : q (zs_cf1 x4 (sU i) (lU j) (sN i) (lN j) x5 x6 x7 x8 x9 x10)) : wX_compatible_124 q (nI i) (nI j) x4 x5 x6 x7 x8 x9 x10 f1 f2 f3 sN sU sF lN lU lF sc sd := by
  unfold zs_cf1 at h
  refine zs_it h (fun h => zs_it h (fun h => zs_it h (fun h => ⟨vp_in_nI hi (by omega), vp_in_nI hj (by omega), ?_⟩) (fun h => zs_k170 hi hj h)) (fun h => zs_k170 hi hj h)) id
  rw [nI_clamp (n := i) (by omega), nI_clamp (n := j) (by omega)]
  exact zs_it h (fun h => zs_k170 hi hj h) id
theorem zs_xcmp {s l i j : Nat} (hs : s ≤ 4) (hl : l ≤ 4) (hi : i < s) (hj : j < l) (h : q (zs_cf (sF i) (lF j) (sU i) (lU j) (sN i) (lN j))) : wpX_compatible q (nI s, nI l, f3, sN, sU, sF, lN, lU, lF, sc, sd) (nI i) (nI j) := by
  have ci : (nI i).toNatClampNeg = i := nI_clamp (by omega)
  have cj : (nI j).toNatClampNeg = j := nI_clamp (by omega)
  refine br_f (nI_pos (by omega)) (br_f (nI_ge hi (by omega)) (br_f (nI_pos (by omega)) (br_t (nI_lt hj (by omega)) ⟨vp_in_nI (by omega) (by omega), nm_r (congrArg sF ci) ⟨vp_in_nI (by omega) (by omega), nm_r (congrArg lF cj) ?_⟩⟩)))
  refine zs_bb (W := fun z => wX_compatible_53 q (nI i) (nI j) (sF i) (lF j) z (nI s) (nI l) f3 sN sU sF lN lU lF sc sd) ?_
  refine zs_bb (W := fun z => wX_compatible_68 q (nI i) (nI j) (sF i) (lF j) (zs_b (sF i) 16) z (nI s) (nI l) f3 sN sU sF lN lU lF sc sd) ?_
  refine zs_bb (W := fun z => wX_compatible_81 q (nI i) (nI j) (sF i) (lF j) (zs_b (sF i) 16) (zs_b (lF j) 16) z (nI s) (nI l) f3 sN sU sF lN lU lF sc sd) ?_
  refine zs_bb (W := fun z => wX_compatible_95 q (nI i) (nI j) (sF i) (lF j) (zs_b (sF i) 16) (zs_b (lF j) 16) (zs_b (sF i) 4) z (nI s) (nI l) f3 sN sU sF lN lU lF sc sd) ?_
  refine zs_bb (W := fun z => wX_compatible_109 q (nI i) (nI j) (lF j) (zs_b (sF i) 16) (zs_b (lF j) 16) (zs_b (sF i) 4) (zs_b (lF j) 4) z (nI s) (nI l) f3 sN sU sF lN lU lF sc sd) ?_
  refine zs_bb (W := fun z => wX_compatible_124 q (nI i) (nI j) (lF j) (zs_b (sF i) 16) (zs_b (lF j) 16) (zs_b (sF i) 4) (zs_b (lF j) 4) (zs_b (sF i) 6) z (nI s) (nI l) f3 sN sU sF lN lU lF sc sd) ?_
  exact zs_k124 (by omega) (by omega) h
end

section
variable {q : Int32 → Prop} {f1 f2 f3 : Int32} {nm bt mt sl : Nat → Int32} {ud : Nat → Int64}
theorem zs_bit {p : Nat} {m : Int32} (hp : p < 8) (h : q (zs_b (bt p) m)) : wpY_bit q (f1, f2, f3, nm, ud, bt, mt, sl) (nI p) m := by
  refine And.intro (vp_in_nI hp (by omega)) ?_
  rw [nI_clamp (n := p) (by omega)]
  exact zs_bb h
theorem zs_y161t {i p : Nat} (hi : i < 8) (hp : p < 8) (h : q (if zs_b (bt i) 4 = zs_b (bt p) 4 then (if zs_b (bt i) 6 = 0 then 1 else 0) else 1)) : wY_compatible_161 q (nI i) (nI p) 1 f1 f2 f3 nm ud bt mt sl := by
  refine br_f (by decide) ?_
  refine zs_bit hi ?_
  refine zs_bit hp ?_
  exact zs_it h (fun h => zs_bit hi (zs_it h id id)) id
theorem zs_y161f {x1 x3 : Int32} (h : q 1) : wY_compatible_161 q x1 x3 0 f1 f2 f3 nm ud bt mt sl := br_t rfl h
theorem zs_y108t {i p : Nat} (hi : i < 8) (hp : p < 8) (h : q (if nm i = nm p then (if zs_b (bt i) 16 = 0 then (if zs_b (bt i) 4 = zs_b (bt p) 4 then (if zs_b (bt i) 4 = zs_b (bt p) 4 then (if zs_b (bt i) 6 = 0 then 1 else 0) else 1) else -5) else 0) else -4)) : wY_compatible_108 q (nI i) (nI p) 1 f1 f2 f3 nm ud bt mt sl := by
  refine And.intro (vp_in_nI hi (by omega)) ⟨vp_in_nI hp (by omega), ?_⟩
  rw [nI_clamp (n := i) (by omega), nI_clamp (n := p) (by omega)]
  refine zs_it h (fun h => zs_bit hi ?_) id
  refine zs_it h (fun h => br_f (by decide) ?_) id
  refine zs_bit hi ?_
  refine zs_bit hp ?_
  exact zs_it h (fun h => zs_y161t hi hp h) id
theorem zs_y108f {i p : Nat} (hi : i < 8) (hp : p < 8) (h : q (if nm i = nm p then (if zs_b (bt i) 16 = 0 then 1 else 0) else -4)) : wY_compatible_108 q (nI i) (nI p) 0 f1 f2 f3 nm ud bt mt sl := by
  refine And.intro (vp_in_nI hi (by omega)) ⟨vp_in_nI hp (by omega), ?_⟩
  rw [nI_clamp (n := i) (by omega), nI_clamp (n := p) (by omega)]
  refine zs_it h (fun h => zs_bit hi ?_) id
  exact zs_it h (fun h => br_t rfl (zs_y161f h)) id
theorem zs_y52t {i p : Nat} (hi : i < 8) (hp : p < 8) (e : zs_b (bt i) 6 = zs_b (bt p) 6) (h : q (zs_cf (bt i) (bt p) (ud i) (ud p) (nm i) (nm p))) : wY_compatible_52 q (nI i) (nI p) 1 f1 f2 f3 nm ud bt mt sl := by
  unfold zs_cf at h
  rw [zs_cf1t e, zs_cf2t e, zs_cf3t e] at h
  refine zs_bit hi ?_
  refine zs_bit hp ?_
  refine zs_it h (fun h => br_f (by decide) ?_) id
  refine zs_bit hp ?_
  refine zs_iti zs_bz h (fun h => ⟨vp_in_nI hi (by omega), vp_in_nI hp (by omega), ?_⟩) (fun h => zs_y108t hi hp h)
  rw [nI_clamp (n := i) (by omega), nI_clamp (n := p) (by omega)]
  exact zs_it h (fun h => zs_y108t hi hp h) id
theorem zs_y52f {i p : Nat} (hi : i < 8) (hp : p < 8) (e : ¬ zs_b (bt i) 6 = zs_b (bt p) 6) (h : q (zs_cf (bt i) (bt p) (ud i) (ud p) (nm i) (nm p))) : wY_compatible_52 q (nI i) (nI p) 0 f1 f2 f3 nm ud bt mt sl := by
  unfold zs_cf at h
  rw [zs_cf1f e, zs_cf2f e, zs_cf3f e] at h
  refine zs_bit hi ?_
  refine zs_bit hp ?_
  exact zs_it h (fun h => br_t rfl (zs_y108f hi hp h)) id
theorem zs_ycmp {s l i j : Nat} (hs : s ≤ 4) (hl : l ≤ 4) (hi : i < s) (hj : j < l) (h : q (zs_cf (bt i) (bt (4 + j)) (ud i) (ud (4 + j)) (nm i) (nm (4 + j)))) : wpY_compatible q (nI s, nI l, f3, nm, ud, bt, mt, sl) (nI i) (nI j) := by
  refine br_f (nI_pos (by omega)) (br_f (nI_ge hi (by omega)) (br_f (nI_pos (by omega)) (br_t (nI_lt hj (by omega)) (nm_r (e' := nI (4 + j)) (nI_add 4 j) ?_))))
  refine zs_bit (by omega) ?_
  refine zs_bit (by omega) ?_
  exact br_c (fun e => zs_y52t (by omega) (by omega) e h) (fun e => zs_y52f (by omega) (by omega) e h)
end
end
section
theorem zs_lts {sN : Nat → Int32} {w : Int32} {i : Nat} (h : ∀ e, e < i → sN e ≠ w) (hi : ¬ sN i = w) : ∀ e, e < i + 1 → sN e ≠ w := by
  intro e he
  by_cases h2 : e = i
  · rw [h2]; exact hi
  · exact h e (by omega)

section
variable {post : Int32 → SX → Prop} {s l E : Nat} {sN lN sF lF sc sd : Nat → Int32} {sU lU : Nat → Int64}
theorem zs_x271 {n : Nat} (hn : n ≤ 8) {f g : Nat → Int32} (hb : ∀ i, i < n → vp_nar .boolean (g i) = g i)
    (hp : ∀ sc sd : Nat → Int32, (∀ i, i < n → sc i = f (n - 1 - i)) → (∀ i, i < n → sd i = g (n - 1 - i)) → post (nI n) (nI s, nI l, nI n, sN, sU, sF, lN, lU, lF, sc, sd)) :
    ∀ (m t : Nat) (sc sd : Nat → Int32), n - t < m → t ≤ n → zs_rv f sc n t → zs_rv g sd n t → wX_layout_271 post (nI n) (nI s) (nI l) 0 m (nI t) (zs_mv (n - t)) sN sU sF lN lU lF sc sd := by
  intro m
  induction m with
  | zero => intro t sc sd h; exact absurd h (by omega)
  | succ m ih =>
    intro t sc sd hm ht h1 h2
    by_cases hx : n - t ≤ t + 1
    · exact br_t ((zs_mle (by omega) (by omega)).mpr hx) (hp _ _ (zs_rv_end h1 hx) (zs_rv_end h2 hx))
    · obtain ⟨b, hb1⟩ : ∃ b, n - t = b + 1 := ⟨n - t - 1, by omega⟩
      rw [hb1]
      show wX_layout_271 post (nI n) (nI s) (nI l) 0 (m + 1) (nI t) (nI b) sN sU sF lN lU lF sc sd
      have hxx : ¬ nI b ≤ nI t := nI_ge (by omega) (by omega)
      have i4 : vp_in (nI t) 8 := vp_in_nI (by omega) (by omega)
      have i5 : vp_in (nI b) 8 := vp_in_nI (by omega) (by omega)
      have ct : (nI t).toNatClampNeg = t := nI_clamp (by omega)
      have cb : (nI b).toNatClampNeg = b := nI_clamp (by omega)
      have hsd : ∀ i, i < n → vp_nar .boolean (sd i) = sd i := by
        intro i hi
        rw [h2 i hi]
        split
        · exact hb _ (by omega)
        · exact hb _ hi
      have e5 : nI b + (-1) = zs_mv (n - (t + 1)) := by
        have e : n - (t + 1) = b := by omega
        rw [e]
        exact zs_mp b
      refine br_f hxx ⟨i4, nm_e ⟨i4, nm_e ⟨i5, i4, nm_e ⟨i5, i4, nm_e ⟨i5, nm_e ⟨i5, nm_e (nm_r (nI_1 t) (nm_r e5 (ih (t + 1) _ _ (by omega) (by omega) ?_ ?_)))⟩⟩⟩⟩⟩⟩
      · rw [ct, cb]
        exact zs_rv_s h1 (by omega) hb1
      · rw [ct, cb, hsd b (by omega), hsd t (by omega)]
        exact zs_rv_s h2 (by omega) hb1
theorem zs_x233 {a : Nat} {L : List (Int32 × Int32)} (ha : a ≤ E) (hE : E ≤ 4) (hN : L.length + (E - a) ≤ 8)
    (K : ∀ sc sd : Nat → Int32, zs_S sc sd (L ++ zs_up a (E - a)) → ∃ n, wX_layout_271 post (nI (L.length + (E - a))) (nI s) (nI l) 0 n 0 (zs_mv (L.length + (E - a))) sN sU sF lN lU lF sc sd) :
    ∀ (m t : Nat) (sc sd : Nat → Int32), t ≤ E - a → E - a - t < m → zs_S sc sd (L ++ zs_up a t) → wX_layout_233 post (nI E) (nI s) (nI l) 0 m (nI (L.length + t)) (nI (a + t)) sN sU sF lN lU lF sc sd := by
  intro m
  induction m with
  | zero => intro t sc sd _ h; exact absurd h (by omega)
  | succ m ih =>
    intro t sc sd ht hm hS
    by_cases hx : t = E - a
    · subst hx
      exact br_t (nI_le (by omega) (by omega)) (nm_r (zs_m1 _) (K sc sd hS))
    · have hx2 : ¬ nI E ≤ nI (a + t) := nI_ge (by omega) (by omega)
      have hi : vp_in (nI (L.length + t)) 8 := vp_in_nI (by omega) (by omega)
      have ct : (nI (L.length + t)).toNatClampNeg = L.length + t := nI_clamp (by omega)
      have e : L.length + t = (L ++ zs_up a t).length := by rw [List.length_append, zs_up_len]
      refine br_f hx2 ⟨hi, nm_e ⟨hi, nm_e (nm_r (nI_1 _) (nm_r (nI_1 _) (ih (t + 1) _ _ (by omega) (by omega) ?_)))⟩⟩
      rw [ct, zs_nb0]
      have z := zs_S_n (v := nI (a + t)) (b := 0) hS e
      rw [List.append_assoc] at z
      exact z
theorem zs_x206 {J48 : Int32 → Int32 → Int32 → (Nat → Int32) → (Nat → Int64) → (Nat → Int32) → (Nat → Int32) → (Nat → Int64) → (Nat → Int32) → (Nat → Int32) → (Nat → Int32) → Prop} {N d : Nat} {L : List (Int32 × Int32)} {x1 x2 x5 : Int32} (hL : N = L.length) (hN : N < 8) (hS : zs_S sc sd L)
    (K : ∀ sc sd : Nat → Int32, zs_S sc sd (L ++ [(x5, 1)]) → J48 x2 (nI (N + 1)) (nI (d + 1)) sN sU sF lN lU lF sc sd) :
    wX_layout_206 post J48 x1 x2 (nI N) (nI d) x5 (nI s) (nI l) 0 sN sU sF lN lU lF sc sd := by
  have hi : vp_in (nI N) 8 := vp_in_nI hN (by omega)
  have ct : (nI N).toNatClampNeg = N := nI_clamp (by omega)
  refine And.intro hi (nm_e ⟨hi, nm_e (nm_r (nI_1 N) (nm_r (nI_1 d) (K _ _ ?_)))⟩)
  rw [ct, zs_nb1]
  exact zs_S_n hS hL
theorem zs_x170 {J48 : Int32 → Int32 → Int32 → (Nat → Int32) → (Nat → Int64) → (Nat → Int32) → (Nat → Int32) → (Nat → Int64) → (Nat → Int32) → (Nat → Int32) → (Nat → Int32) → Prop} {a j d : Nat} {L : List (Int32 × Int32)} {x1 : Int32} (ha : a ≤ j) (hj : j ≤ 4) (hN : L.length + (j - a) < 8)
    (K : ∀ sc sd : Nat → Int32, zs_S sc sd (L ++ (zs_up a (j - a) ++ [(nI j, 1)])) → J48 (nI (j + 1)) (nI (L.length + (j - a) + 1)) (nI (d + 1)) sN sU sF lN lU lF sc sd) :
    ∀ (m t : Nat) (sc sd : Nat → Int32), t ≤ j - a → j - a - t < m → zs_S sc sd (L ++ zs_up a t) → wX_layout_170 post J48 x1 (nI d) (nI j) (nI s) (nI l) 0 m (nI (L.length + t)) (nI (a + t)) sN sU sF lN lU lF sc sd := by
  intro m
  induction m with
  | zero => intro t sc sd _ h; exact absurd h (by omega)
  | succ m ih =>
    intro t sc sd ht hm hS
    have e : L.length + t = (L ++ zs_up a t).length := by rw [List.length_append, zs_up_len]
    by_cases hx : t = j - a
    · subst hx
      refine br_t (nI_le (by omega) (by omega)) (nm_r (nI_1 j) (zs_x206 e hN hS (fun sc sd h => K sc sd ?_)))
      rw [← List.append_assoc]
      exact h
    · have hx2 : ¬ nI j ≤ nI (a + t) := nI_ge (by omega) (by omega)
      have hi : vp_in (nI (L.length + t)) 8 := vp_in_nI (by omega) (by omega)
      have ct : (nI (L.length + t)).toNatClampNeg = L.length + t := nI_clamp (by omega)
      refine br_f hx2 ⟨hi, nm_e ⟨hi, nm_e (nm_r (nI_1 _) (nm_r (nI_1 _) (ih (t + 1) _ _ (by omega) (by omega) ?_)))⟩⟩
      rw [ct, zs_nb0]
      have z := zs_S_n (v := nI (a + t)) (b := 0) hS e
      rw [List.append_assoc] at z
      exact z
theorem zs_x106 {J48 : Int32 → Int32 → Int32 → (Nat → Int32) → (Nat → Int64) → (Nat → Int32) → (Nat → Int32) → (Nat → Int64) → (Nat → Int32) → (Nat → Int32) → (Nat → Int32) → Prop} {x1 x3 : Int32} {a d c : Nat} (ha : a ≤ E) (hE : E ≤ 4) (hd : d < 4) (hc : zs_Sp lN (sN d) a E c)
    (K0 : c = 0 → wX_layout_206 post J48 x1 (nI a) x3 (nI d) (zs_mv 0) (nI s) (nI l) 0 sN sU sF lN lU lF sc sd)
    (K1 : ∀ j, c = j + 1 → wpX_compatible (fun r => (0 ≤ r → ∃ n170 : Nat, wX_layout_170 post J48 x1 (nI d) (nI j) (nI s) (nI l) 0 n170 x3 (nI a) sN sU sF lN lU lF sc sd) ∧ (¬ 0 ≤ r → post r (nI s, nI l, 0, sN, sU, sF, lN, lU, lF, sc, sd))) (nI s, nI l, 0, sN, sU, sF, lN, lU, lF, sc, sd) (nI d) (nI j)) :
    ∀ (m j : Nat) (x5 : Int32), a ≤ j → j ≤ E → j - a < m → ((c = 0 ∨ j < c) → x5 = zs_mv c) → wX_layout_106 post J48 x1 (nI a) x3 (nI d) (nI s) (nI l) 0 sN sU sF lN lU lF sc sd m x5 (zs_mv j) := by
  intro m
  induction m with
  | zero => intro j x5 _ _ h; exact absurd h (by omega)
  | succ m ih =>
    intro j x5 h1 h2 hm h5
    by_cases hx : j ≤ a
    · rcases hc with ⟨h, _⟩ | ⟨i, h, hi1, hi2, _⟩
      · rw [h5 (Or.inl h), h]
        exact br_t ((zs_mlt (by omega) (by omega)).mpr hx) (br_t zs_neg (K0 h))
      · rw [h5 (Or.inr (by omega)), h]
        exact br_t ((zs_mlt (by omega) (by omega)).mpr hx) (br_f (zs_nn (by omega)) (K1 i h))
    · obtain ⟨i, rfl⟩ : ∃ i, j = i + 1 := ⟨j - 1, by omega⟩
      show wX_layout_106 post J48 x1 (nI a) x3 (nI d) (nI s) (nI l) 0 sN sU sF lN lU lF sc sd (m + 1) x5 (nI i)
      have hge : ¬ nI i < nI a := nI_nlt (by omega) (by omega)
      refine br_f hge ⟨vp_in_nI (by omega) (by omega), vp_in_nI hd (by omega), ?_⟩
      rw [nI_clamp (n := i) (by omega), nI_clamp (n := d) (by omega)]
      refine br_c (fun he => nm_r (zs_mp i) (ih i _ (by omega) (by omega) (by omega) ?_)) (fun he => nm_r (zs_mp i) (ih i _ (by omega) (by omega) (by omega) ?_))
      · intro hcc
        rcases hc with ⟨h, hh⟩ | ⟨k, h, hk1, hk2, hk3, hk4⟩
        · exact absurd he (hh i (by omega) (by omega))
        · have hki : k = i := by
            by_cases hlt : i < k
            · exact absurd he (hk4 i (by omega) hlt)
            · omega
          rw [h, hki]
          rfl
      · intro hcc
        refine h5 ?_
        rcases hc with ⟨h, hh⟩ | ⟨k, h, hk1, hk2, hk3, hk4⟩
        · exact Or.inl h
        · have hki : ¬ k = i := by
            intro z
            rw [z] at hk3
            exact he hk3
          exact Or.inr (by omega)
theorem zs_x60 {J48 : Int32 → Int32 → Int32 → (Nat → Int32) → (Nat → Int64) → (Nat → Int32) → (Nat → Int32) → (Nat → Int64) → (Nat → Int32) → (Nat → Int32) → (Nat → Int32) → Prop} {x2 x3 : Int32} {d : Nat} (hd : d < 4)
    (K6 : zs_Du sN d → post (-6) (nI s, nI l, 0, sN, sU, sF, lN, lU, lF, sc, sd))
    (K : ¬ zs_Du sN d → ∃ n, wX_layout_106 post J48 (nI E) x2 x3 (nI d) (nI s) (nI l) 0 sN sU sF lN lU lF sc sd n (-1) (zs_mv E)) :
    ∀ (m i : Nat), i ≤ d → d - i < m → (∀ e, e < i → sN e ≠ sN d) → wX_layout_60 post J48 (nI E) x2 x3 (nI d) (nI s) (nI l) 0 sN sU sF lN lU lF sc sd m (nI i) := by
  intro m
  induction m with
  | zero => intro i _ h; exact absurd h (by omega)
  | succ m ih =>
    intro i h1 h2 h3
    by_cases hx : i = d
    · have hle : nI d ≤ nI i := nI_le (by omega) (by omega)
      have hnd : ¬ zs_Du sN d := fun ⟨e, he, z⟩ => h3 e (by omega) z
      exact br_t hle (nm_r (zs_m1 E) (K hnd))
    · have hlt : ¬ nI d ≤ nI i := nI_ge (by omega) (by omega)
      refine br_f hlt ⟨vp_in_nI (by omega) (by omega), vp_in_nI hd (by omega), ?_⟩
      rw [nI_clamp (n := i) (by omega), nI_clamp (n := d) (by omega)]
      exact br_c (fun he => K6 ⟨i, by omega, he⟩) (fun he => nm_r (nI_1 i) (ih (i + 1) (by omega) (by omega) (zs_lts h3 he)))
theorem zs_x48 {cf : Nat → Nat → Int32} (hs : s ≤ 4) (hE : E ≤ l) (hl : l ≤ 4)
    (HC : ∀ (d j : Nat), d < s → j < l → ∀ (q : Int32 → Prop) (sc sd : Nat → Int32), q (cf d j) → wpX_compatible q (nI s, nI l, 0, sN, sU, sF, lN, lU, lF, sc, sd) (nI d) (nI j)) :
    ∀ (k d n : Nat) (sc sd : Nat → Int32), d + k = s → k < n → zs_S sc sd (zs_L sN lN E d) →
      (∀ r, zs_res cf sN lN E k d = some r → ∀ sc sd : Nat → Int32, post r (nI s, nI l, 0, sN, sU, sF, lN, lU, lF, sc, sd)) →
      (zs_res cf sN lN E k d = none → ∀ sc sd : Nat → Int32, zs_S sc sd (zs_L sN lN E s) → ∃ m, wX_layout_233 post (nI E) (nI s) (nI l) 0 m (nI (zs_L sN lN E s).length) (nI (zs_lo sN lN E s)) sN sU sF lN lU lF sc sd) →
      wX_layout_48 post (nI E) (nI s) (nI l) 0 n (nI (zs_lo sN lN E d)) (nI (zs_L sN lN E d).length) (nI d) sN sU sF lN lU lF sc sd := by
  intro k
  induction k with
  | zero =>
    intro d n sc sd hd hn hS H1 H2
    obtain ⟨n, rfl⟩ : ∃ m, n = m + 1 := ⟨n - 1, by omega⟩
    have hd' : d = s := hd
    rw [hd'] at hS
    rw [hd']
    exact br_t (nI_le (Nat.le_refl s) (by omega)) (H2 rfl sc sd hS)
  | succ k ih =>
    intro d n sc sd hd hn hS H1 H2
    obtain ⟨n, rfl⟩ : ∃ m, n = m + 1 := ⟨n - 1, by omega⟩
    have hlo := zs_lo_le sN lN E d
    have hlen := zs_L_len sN lN E d
    have hlt : ¬ nI s ≤ nI d := nI_ge (by omega) (by omega)
    refine br_f hlt ⟨d + 1, zs_x60 (by omega) (fun h6 => H1 _ (zs_res6 h6) sc sd) (fun hn6 => ?_) (d + 1) 0 (by omega) (by omega) (fun e he => absurd he (by omega))⟩
    refine ⟨E + 1, zs_x106 hlo (by omega) (by omega) (zs_c_spec sN lN E d) (fun h0 => ?_) (fun j hj => ?_) (E + 1) E (-1) hlo (Nat.le_refl E) (by omega) (fun hcc => ?_)⟩
    · refine zs_x206 rfl (by omega) hS (fun sc sd h => ?_)
      have z := ih (d + 1) n sc sd (by omega) (by omega) (by rw [zs_L0 h0]; exact h) (fun r hr => H1 r ((zs_res0 hn6 h0).trans hr)) (fun hr => H2 ((zs_res0 hn6 h0).trans hr))
      rw [zs_lo0 h0, zs_L0_len h0] at z
      exact z
    · have hj2 := zs_c_in hj
      refine HC d j (by omega) (by omega) _ sc sd ?_
      refine br_c (fun hp => ⟨j + 1, ?_⟩) (fun hp => H1 _ (zs_resm hn6 hj hp) sc sd)
      refine zs_x170 (L := zs_L sN lN E d) hj2.1 (by omega) (by omega) (fun sc sd h => ?_) (j + 1) 0 sc sd (Nat.zero_le _) (by omega) ?_
      · have z := ih (d + 1) n sc sd (by omega) (by omega) (by rw [zs_L1 hj]; exact h) (fun r hr => H1 r ((zs_res1 hn6 hj hp).trans hr)) (fun hr => H2 ((zs_res1 hn6 hj hp).trans hr))
        rw [zs_lo1 hj, zs_L1_len hj] at z
        exact z
      · show zs_S sc sd (zs_L sN lN E d ++ [])
        rw [List.append_nil]
        exact hS
    · have hcl := zs_c_le sN lN E d
      have h0 : zs_c sN lN E d = 0 := by omega
      rw [h0]
      rfl
theorem zs_x17 (hl : l ≤ 4) (hE : E ≤ l) (hE1 : ∀ i, i < E → ¬ lF i &&& 6 = 0) (hE2 : E = l ∨ lF E &&& 6 = 0)
    (K : ∃ n, wX_layout_48 post (nI E) (nI s) (nI l) 0 n 0 0 0 sN sU sF lN lU lF sc sd) :
    ∀ (m j : Nat) (x1 : Int32), j ≤ l → j < m → (j ≤ E → x1 = nI E) → wX_layout_17 post (nI s) (nI l) 0 sN sU sF lN lU lF sc sd m x1 (zs_mv j) := by
  intro m
  induction m with
  | zero => intro j x1 _ h; exact absurd h (by omega)
  | succ m ih =>
    intro j x1 h1 hm h2
    by_cases hj : j = 0
    · rw [hj] at h2 ⊢
      rw [h2 (Nat.zero_le E)]
      exact br_t zs_neg K
    · obtain ⟨i, rfl⟩ : ∃ i, j = i + 1 := ⟨j - 1, by omega⟩
      show wX_layout_17 post (nI s) (nI l) 0 sN sU sF lN lU lF sc sd (m + 1) x1 (nI i)
      have hnn : ¬ nI i < 0 := nI_pos (by omega)
      refine br_f hnn ⟨vp_in_nI (by omega) (by omega), ?_⟩
      rw [nI_clamp (n := i) (by omega)]
      refine br_c (fun he => nm_r (zs_mp i) (ih i _ (by omega) (by omega) (fun hi => ?_))) (fun he => nm_r (zs_mp i) (ih i _ (by omega) (by omega) (fun hi => h2 ?_)))
      · have hie : i = E := by
          by_cases hlt : i < E
          · exact absurd he (hE1 i hlt)
          · omega
        rw [hie]
      · by_cases hlt : i < E
        · exact hlt
        · have hie : i = E := by omega
          rcases hE2 with h | h
          · omega
          · rw [hie] at he
            exact absurd h he
theorem zs_xlay {cf : Nat → Nat → Int32} {q0 : Int32} (hs : s ≤ 4) (hl : l ≤ 4) (hE : E ≤ l) (hE1 : ∀ i, i < E → ¬ lF i &&& 6 = 0) (hE2 : E = l ∨ lF E &&& 6 = 0)
    (HC : ∀ (d j : Nat), d < s → j < l → ∀ (q : Int32 → Prop) (sc sd : Nat → Int32), q (cf d j) → wpX_compatible q (nI s, nI l, 0, sN, sU, sF, lN, lU, lF, sc, sd) (nI d) (nI j))
    (H1 : ∀ r, zs_res cf sN lN E s 0 = some r → ∀ sc sd : Nat → Int32, post r (nI s, nI l, 0, sN, sU, sF, lN, lU, lF, sc, sd))
    (H2 : zs_res cf sN lN E s 0 = none → ∀ sc sd : Nat → Int32, zs_S sc sd (zs_T sN lN E s).reverse → post (nI (zs_T sN lN E s).length) (nI s, nI l, nI (zs_T sN lN E s).length, sN, sU, sF, lN, lU, lF, sc, sd)) :
    wpX_layout post (nI s, nI l, q0, sN, sU, sF, lN, lU, lF, sc, sd) := by
  have hlo := zs_lo_le sN lN E s
  have hT8 := zs_T_le sN lN (E := E) (s := s) (by omega) hs
  have hTl := zs_T_len sN lN E s
  have H3 : zs_res cf sN lN E s 0 = none → ∀ sc sd : Nat → Int32, zs_S sc sd (zs_L sN lN E s) → ∃ m, wX_layout_233 post (nI E) (nI s) (nI l) 0 m (nI (zs_L sN lN E s).length) (nI (zs_lo sN lN E s)) sN sU sF lN lU lF sc sd := by
    intro hr sc sd hS
    refine ⟨E + 1, zs_x233 (L := zs_L sN lN E s) (a := zs_lo sN lN E s) hlo (by omega) (by omega) (fun sc sd hS2 => ?_) (E + 1) 0 sc sd (Nat.zero_le _) (by omega) ?_⟩
    · rw [← hTl]
      refine ⟨(zs_T sN lN E s).length + 1, zs_x271 (n := (zs_T sN lN E s).length) (f := sc) (g := sd) hT8 (fun i hi => ?_) (fun sc' sd' g1 g2 => H2 hr sc' sd' ?_) ((zs_T sN lN E s).length + 1) 0 sc sd (by omega) (Nat.zero_le _) zs_rv0 zs_rv0⟩
      · have hx : (zs_T sN lN E s)[i]? = some ((zs_T sN lN E s)[i]) := List.getElem?_eq_getElem hi
        rw [(hS2 i _ hx).2]
        exact zs_nb (zs_B_T sN lN E s _ (List.getElem_mem hi))
      · intro i x hx
        have ⟨hi, hx2⟩ := zs_rev_get hx
        have ⟨e1, e2⟩ := hS2 _ _ hx2
        exact ⟨(g1 i hi).trans e1, (g2 i hi).trans e2⟩
    · show zs_S sc sd (zs_L sN lN E s ++ [])
      rw [List.append_nil]
      exact hS
  have K : ∃ n, wX_layout_48 post (nI E) (nI s) (nI l) 0 n 0 0 0 sN sU sF lN lU lF sc sd :=
    ⟨s + 1, zs_x48 hs hE hl HC s 0 (s + 1) sc sd (Nat.zero_add s) (by omega) zs_S_nil H1 H3⟩
  refine nm_r (zs_m1 l) ⟨l + 1, zs_x17 hl hE hE1 hE2 K (l + 1) l (nI l) (Nat.le_refl l) (by omega) (fun h => ?_)⟩
  have e : l = E := by omega
  rw [← e]
end
end
section
section
variable {q : Int32 → Prop} {f1 f2 f3 : Int32} {sN lN nm bt mt sl : Nat → Int32} {ud : Nat → Int64} {E d : Nat}
theorem zs_ylow4 (hE : E ≤ 4) (hd : d ≤ 4) (hm : ∀ e, e < d → mt e = zs_mv (zs_c sN lN E e)) (hp : q (nI (zs_lo sN lN E d))) :
    ∀ k i : Nat, i + k = d → wY_low_4 q (nI d) f1 f2 f3 nm ud bt mt sl (k + 1) (nI (zs_lo sN lN E i)) (nI i) := by
  intro k
  induction k with
  | zero =>
    intro i hi
    have e : i = d := hi
    rw [e]
    exact br_t (nI_le (Nat.le_refl d) (by omega)) hp
  | succ k ih =>
    intro i hi
    have hlt : ¬ nI d ≤ nI i := nI_ge (by omega) (by omega)
    have z := ih (i + 1) (by omega)
    refine br_f hlt ⟨vp_in_nI (by omega) (by omega), ?_⟩
    rw [nI_clamp (n := i) (by omega), hm i (by omega)]
    rcases zs_c_spec sN lN E i with ⟨h, _⟩ | ⟨j, h, h1, h2, _⟩
    · rw [zs_lo0 h] at z
      rw [h]
      exact br_t zs_neg (nm_r (nI_1 i) z)
    · rw [zs_lo1 h] at z
      rw [h]
      exact br_f (zs_nn (by omega)) ⟨vp_in_nI (by omega) (by omega), nm_r (nI_1 j) (nm_r (nI_1 i) z)⟩
theorem zs_ylow (hE : E ≤ 4) (hd : d ≤ 4) (hm : ∀ e, e < d → mt e = zs_mv (zs_c sN lN E e)) (hp : q (nI (zs_lo sN lN E d))) :
    wpY_low q (f1, f2, f3, nm, ud, bt, mt, sl) (nI d) :=
  Exists.intro (d + 1) (zs_ylow4 hE hd hm hp d 0 (Nat.zero_add d))
theorem zs_yemit {p : SY → Prop} {R : List (Int32 × Int32)} {c : Nat} {b : Int32} (hR : R.length < 8) (hc : c ≤ 4) (hb : b = 0 ∨ b = 1) (hZ : zs_Z sl R)
    (K : ∀ sl : Nat → Int32, zs_Z sl (R ++ [(zs_mv c, b)]) → p (f1, f2, nI (R ++ [(zs_mv c, b)]).length, nm, ud, bt, mt, sl)) :
    wpY_emit p (f1, f2, nI R.length, nm, ud, bt, mt, sl) (zs_mv c) b := by
  have e : nI R.length + 1 = nI (R ++ [(zs_mv c, b)]).length := by
    rw [List.length_append]
    exact nI_1 _
  refine nm_r e ?_
  rw [zs_and7 hR, nI_clamp (n := R.length) (by omega)]
  exact ⟨vp_in_nI hR (by omega), nm_e (K _ (zs_Z_put hZ (zs_Genc hc hb)))⟩
end

section
variable {post : Int32 → SY → Prop} {s l E d : Nat} {sN lN lF nm bt mt sl : Nat → Int32} {ud : Nat → Int64} {TT rest : List (Int32 × Int32)}
theorem zs_y225 {J192 : Int32 → Int32 → Int32 → Int32 → (Nat → Int32) → (Nat → Int64) → (Nat → Int32) → (Nat → Int32) → (Nat → Int32) → Prop} (hE : E ≤ 4) (hd : d < 4) (hm : ∀ e, e < d → mt e = zs_mv (zs_c sN lN E e)) (hT : TT.length ≤ 8)
    (K : ∀ (R : List (Int32 × Int32)) (sl : Nat → Int32), zs_Z sl R → R ++ rest = TT → J192 (zs_mv d) (nI s) (nI l) (nI R.length) nm ud bt mt sl) :
    ∀ (m j : Nat) (R : List (Int32 × Int32)) (sl : Nat → Int32), j ≤ 4 → j < m → zs_Z sl R → R ++ ((zs_up (zs_lo sN lN E d) (j - zs_lo sN lN E d)).reverse ++ rest) = TT → wY_layout_225 post J192 (nI d) m (zs_mv j) (nI s) (nI l) (nI R.length) nm ud bt mt sl := by
  have hlo := zs_lo_le sN lN E d
  intro m
  induction m with
  | zero => intro j R sl _ h; exact absurd h (by omega)
  | succ m ih =>
    intro j R sl hj hm2 hZ hR
    refine zs_ylow (sN := sN) (lN := lN) (d := d) hE (by omega) hm ?_
    by_cases hx : j ≤ zs_lo sN lN E d
    · have e : j - zs_lo sN lN E d = 0 := by omega
      rw [e] at hR
      exact br_t ((zs_mlt (by omega) (by omega)).mpr hx) (nm_r (zs_mp d) (K R sl hZ hR))
    · obtain ⟨i, rfl⟩ : ∃ i, j = i + 1 := ⟨j - 1, by omega⟩
      rw [zs_up_rev (by omega)] at hR
      have hlen := congrArg List.length hR
      simp only [List.length_append, List.length_cons] at hlen
      refine br_f (fun z => hx ((zs_mlt (by omega) (by omega)).mp z)) (zs_yemit (c := i + 1) (by omega) hj (Or.inl rfl) hZ (fun sl' h' => nm_r (zs_mp i) (ih i _ sl' (by omega) (by omega) h' ?_)))
      rw [← hR]
      simp only [List.append_assoc, List.cons_append, List.nil_append]
theorem zs_y192 (hE : E ≤ 4) (hs : s ≤ 4) (hm : ∀ e, e < s → mt e = zs_mv (zs_c sN lN E e)) (hT : TT.length ≤ 8)
    (K : ∀ sl : Nat → Int32, zs_Z sl TT → post (nI TT.length) (nI s, nI l, nI TT.length, nm, ud, bt, mt, sl)) :
    ∀ (d m : Nat) (R : List (Int32 × Int32)) (sl : Nat → Int32), d ≤ s → d < m → zs_Z sl R → R ++ (zs_L sN lN E d).reverse = TT → wY_layout_192 post m (zs_mv d) (nI s) (nI l) (nI R.length) nm ud bt mt sl := by
  intro d
  induction d with
  | zero =>
    intro m R sl _ hm2 hZ hR
    obtain ⟨m, rfl⟩ : ∃ k, m = k + 1 := ⟨m - 1, by omega⟩
    have e : R = TT := (List.append_nil R).symm.trans hR
    rw [e] at hZ ⊢
    exact br_t zs_neg (K sl hZ)
  | succ d ih =>
    intro m R sl hds hm2 hZ hR
    obtain ⟨m, rfl⟩ : ∃ k, m = k + 1 := ⟨m - 1, by omega⟩
    have hcl := zs_c_le sN lN E d
    have hlo := zs_lo_le sN lN E d
    show wY_layout_192 post (m + 1) (nI d) (nI s) (nI l) (nI R.length) nm ud bt mt sl
    have hnn : ¬ nI d < 0 := nI_pos (by omega)
    have hin : vp_in (nI d) 4 := vp_in_nI (by omega) (by omega)
    have hL1 : 1 ≤ (zs_L sN lN E (d + 1)).length := by
      rcases zs_c_spec sN lN E d with ⟨h, _⟩ | ⟨j, h, h1, h2, _⟩
      · rw [zs_L0_len h]; omega
      · rw [zs_L1_len h]; omega
    have hlen := congrArg List.length hR
    simp only [List.length_append, List.length_reverse] at hlen
    refine br_f hnn ⟨hin, ?_⟩
    rw [nI_clamp (n := d) (by omega), hm d (by omega)]
    refine zs_yemit (by omega) (by omega) (Or.inr rfl) hZ (fun sl' h' => ?_)
    refine And.intro hin ?_
    rw [hm d (by omega)]
    rcases zs_c_spec sN lN E d with ⟨h, _⟩ | ⟨j, h, h1, h2, _⟩
    · rw [zs_L0 h] at hR
      rw [h] at h' ⊢
      refine br_t zs_neg (nm_r (zs_mp d) (ih m _ sl' (by omega) (by omega) h' ?_))
      rw [← hR]
      simp only [List.reverse_append, List.reverse_cons, List.reverse_nil, List.append_assoc, List.cons_append, List.nil_append]
    · rw [zs_L1 h] at hR
      rw [h] at h' ⊢
      refine br_f (zs_nn (by omega)) ⟨hin, nm_r (zs_m1 j) ⟨j + 1, ?_⟩⟩
      refine zs_y225 (sN := sN) (lN := lN) (d := d) (rest := (zs_L sN lN E d).reverse) hE (by omega) (fun e he => hm e (by omega)) hT (fun R sl hZ hR => ih m R sl (by omega) (by omega) hZ hR) (j + 1) j _ sl' (by omega) (by omega) h' ?_
      rw [← hR]
      simp only [List.reverse_append, List.reverse_cons, List.reverse_nil, List.append_assoc, List.cons_append, List.nil_append]
theorem zs_y161 (hE : E ≤ 4) (hs : s ≤ 4) (hm : ∀ e, e < s → mt e = zs_mv (zs_c sN lN E e)) (hT : TT.length ≤ 8)
    (K : ∀ (R : List (Int32 × Int32)) (sl : Nat → Int32), zs_Z sl R → R ++ rest = TT → ∃ n, wY_layout_192 post n (zs_mv s) (nI s) (nI l) (nI R.length) nm ud bt mt sl) :
    ∀ (m j : Nat) (R : List (Int32 × Int32)) (sl : Nat → Int32), j ≤ 4 → j < m → zs_Z sl R → R ++ ((zs_up (zs_lo sN lN E s) (j - zs_lo sN lN E s)).reverse ++ rest) = TT → wY_layout_161 post m (zs_mv j) (nI s) (nI l) (nI R.length) nm ud bt mt sl := by
  have hlo := zs_lo_le sN lN E s
  intro m
  induction m with
  | zero => intro j R sl _ h; exact absurd h (by omega)
  | succ m ih =>
    intro j R sl hj hm2 hZ hR
    refine zs_ylow (sN := sN) (lN := lN) (d := s) hE (by omega) hm ?_
    by_cases hx : j ≤ zs_lo sN lN E s
    · have e : j - zs_lo sN lN E s = 0 := by omega
      rw [e] at hR
      exact br_t ((zs_mlt (by omega) (by omega)).mpr hx) (nm_r (zs_m1 s) (K R sl hZ hR))
    · obtain ⟨i, rfl⟩ : ∃ i, j = i + 1 := ⟨j - 1, by omega⟩
      rw [zs_up_rev (by omega)] at hR
      have hlen := congrArg List.length hR
      simp only [List.length_append, List.length_cons] at hlen
      refine br_f (fun z => hx ((zs_mlt (by omega) (by omega)).mp z)) (zs_yemit (c := i + 1) (by omega) hj (Or.inl rfl) hZ (fun sl' h' => nm_r (zs_mp i) (ih i _ sl' (by omega) (by omega) h' ?_)))
      rw [← hR]
      simp only [List.append_assoc, List.cons_append, List.nil_append]
theorem zs_y85 {J35 : Int32 → (Nat → Int32) → (Nat → Int64) → (Nat → Int32) → (Nat → Int32) → (Nat → Int32) → Prop} {x1 : Int32} (hE : E ≤ 4) (hd : d < 4) (hnS : ∀ i, i < 4 → nm i = sN i) (hnL : ∀ i, i < 4 → nm (4 + i) = lN i)
    (K0 : zs_c sN lN E d = 0 → ∀ mt : Nat → Int32, (∀ e, e < d + 1 → mt e = zs_mv (zs_c sN lN E e)) → J35 (nI (d + 1)) nm ud bt mt sl)
    (K1 : ∀ j, zs_c sN lN E d = j + 1 → ∀ mt : Nat → Int32, (∀ e, e < d + 1 → mt e = zs_mv (zs_c sN lN E e)) → wpY_compatible (fun r => (0 ≤ r → ∀ y : Int32, y = nI d + 1 → J35 y nm ud bt mt sl) ∧ (¬ 0 ≤ r → post r (nI s, nI l, 0, nm, ud, bt, mt, sl))) (nI s, nI l, 0, nm, ud, bt, mt, sl) (nI d) (nI j)) :
    ∀ (m j : Nat) (mt : Nat → Int32), zs_lo sN lN E d ≤ j → j ≤ E → j < m → (∀ e, e < d → mt e = zs_mv (zs_c sN lN E e)) → ((zs_c sN lN E d = 0 ∨ j < zs_c sN lN E d) → mt d = zs_mv (zs_c sN lN E d)) → wY_layout_85 post J35 x1 (nI d) (nI s) (nI l) 0 m (zs_mv j) nm ud bt mt sl := by
  have hin4 : vp_in (nI d) 4 := vp_in_nI hd (by omega)
  have hin8 : vp_in (nI d) 8 := vp_in_nI (by omega) (by omega)
  have cd : (nI d).toNatClampNeg = d := nI_clamp (by omega)
  intro m
  induction m with
  | zero => intro j mt _ _ h; exact absurd h (by omega)
  | succ m ih =>
    intro j mt h1 h2 hm2 hm h5
    by_cases hx : j ≤ zs_lo sN lN E d
    · have hmd : mt d = zs_mv (zs_c sN lN E d) := by
        refine h5 ?_
        rcases zs_c_spec sN lN E d with ⟨h, _⟩ | ⟨i, h, hi1, hi2, _⟩
        · exact Or.inl h
        · exact Or.inr (by omega)
      have hmm : ∀ e, e < d + 1 → mt e = zs_mv (zs_c sN lN E e) := by
        intro e he
        by_cases hed : e = d
        · rw [hed]; exact hmd
        · exact hm e (by omega)
      refine zs_ylow (sN := sN) (lN := lN) (d := d) hE (by omega) hm ?_
      refine br_t ((zs_mlt (by omega) (by omega)).mpr hx) ⟨hin4, ?_⟩
      rw [cd, hmd]
      rcases zs_c_spec sN lN E d with ⟨h, _⟩ | ⟨i, h, hi1, hi2, _⟩
      · rw [h]
        exact br_t zs_neg (nm_r (nI_1 d) (K0 h mt hmm))
      · rw [h]
        exact br_f (zs_nn (by omega)) ⟨hin4, K1 i h mt hmm⟩
    · obtain ⟨i, rfl⟩ : ∃ i, j = i + 1 := ⟨j - 1, by omega⟩
      show wY_layout_85 post J35 x1 (nI d) (nI s) (nI l) 0 (m + 1) (nI i) nm ud bt mt sl
      have e4 : (4 : Int32) + nI i = nI (4 + i) := nI_add 4 i
      refine zs_ylow (sN := sN) (lN := lN) (d := d) hE (by omega) hm ?_
      have hge : ¬ nI i < nI (zs_lo sN lN E d) := nI_nlt (by omega) (by omega)
      refine br_f hge ?_
      rw [e4, cd, nI_clamp (n := 4 + i) (by omega), hnL i (by omega), hnS d hd]
      refine ⟨vp_in_nI (by omega) (by omega), hin8, ?_⟩
      refine br_c (fun he => ⟨hin4, nm_e (nm_r (zs_mp i) (ih i _ (by omega) (by omega) (by omega) (fun e hed => ?_) (fun hcc => ?_)))⟩) (fun he => nm_r (zs_mp i) (ih i _ (by omega) (by omega) (by omega) hm (fun hcc => h5 ?_)))
      · have hne : e ≠ d := by omega
        rw [pk_un hne]
        exact hm e hed
      · rw [pk_us]
        rcases zs_c_spec sN lN E d with ⟨h, hh⟩ | ⟨k, h, hk1, hk2, hk3, hk4⟩
        · exact absurd he (hh i (by omega) (by omega))
        · have hki : k = i := by
            by_cases hlt : i < k
            · exact absurd he (hk4 i (by omega) hlt)
            · omega
          rw [h, hki]
          rfl
      · rcases zs_c_spec sN lN E d with ⟨h, hh⟩ | ⟨k, h, hk1, hk2, hk3, hk4⟩
        · exact Or.inl h
        · have hki : ¬ k = i := by
            intro z
            rw [z] at hk3
            exact he hk3
          exact Or.inr (by omega)
theorem zs_y45 {J35 : Int32 → (Nat → Int32) → (Nat → Int64) → (Nat → Int32) → (Nat → Int32) → (Nat → Int32) → Prop} (hd : d < 4) (hnS : ∀ i, i < 4 → nm i = sN i)
    (K6 : zs_Du sN d → post (-6) (nI s, nI l, 0, nm, ud, bt, mt, sl))
    (K : ¬ zs_Du sN d → ∃ n, wY_layout_85 post J35 (nI E) (nI d) (nI s) (nI l) 0 n (zs_mv E) nm ud bt (upd mt d (-1)) sl) :
    ∀ (m i : Nat), i ≤ d → d - i < m → (∀ e, e < i → sN e ≠ sN d) → wY_layout_45 post J35 (nI E) (nI d) (nI s) (nI l) 0 nm ud bt mt sl m (nI i) := by
  have cd : (nI d).toNatClampNeg = d := nI_clamp (by omega)
  intro m
  induction m with
  | zero => intro i _ h; exact absurd h (by omega)
  | succ m ih =>
    intro i h1 h2 h3
    by_cases hx : i = d
    · have hle : nI d ≤ nI i := nI_le (by omega) (by omega)
      have hnd : ¬ zs_Du sN d := fun ⟨e, he, z⟩ => h3 e (by omega) z
      refine br_t hle ⟨vp_in_nI hd (by omega), ?_⟩
      rw [cd]
      exact nm_e (nm_r (zs_m1 E) (K hnd))
    · have hlt : ¬ nI d ≤ nI i := nI_ge (by omega) (by omega)
      refine br_f hlt ⟨vp_in_nI (by omega) (by omega), vp_in_nI (by omega) (by omega), ?_⟩
      rw [nI_clamp (n := i) (by omega), cd, hnS i (by omega), hnS d hd]
      exact br_c (fun he => K6 ⟨i, by omega, he⟩) (fun he => nm_r (nI_1 i) (ih (i + 1) (by omega) (by omega) (zs_lts h3 he)))
theorem zs_y35 {cf : Nat → Nat → Int32} (hs : s ≤ 4) (hE : E ≤ l) (hl : l ≤ 4) (hnS : ∀ i, i < 4 → nm i = sN i) (hnL : ∀ i, i < 4 → nm (4 + i) = lN i)
    (HC : ∀ (d j : Nat), d < s → j < l → ∀ (q : Int32 → Prop) (mt : Nat → Int32), q (cf d j) → wpY_compatible q (nI s, nI l, 0, nm, ud, bt, mt, sl) (nI d) (nI j)) :
    ∀ (k d n : Nat) (mt : Nat → Int32), d + k = s → k < n → (∀ e, e < d → mt e = zs_mv (zs_c sN lN E e)) →
      (∀ r, zs_res cf sN lN E k d = some r → ∀ mt : Nat → Int32, post r (nI s, nI l, 0, nm, ud, bt, mt, sl)) →
      (zs_res cf sN lN E k d = none → ∀ mt : Nat → Int32, (∀ e, e < s → mt e = zs_mv (zs_c sN lN E e)) → ∃ m, wY_layout_161 post m (zs_mv E) (nI s) (nI l) 0 nm ud bt mt sl) →
      wY_layout_35 post (nI E) (nI s) (nI l) 0 n (nI d) nm ud bt mt sl := by
  intro k
  induction k with
  | zero =>
    intro d n mt hd hn hm H1 H2
    obtain ⟨n, rfl⟩ : ∃ m, n = m + 1 := ⟨n - 1, by omega⟩
    have hd' : d = s := hd
    rw [hd'] at hm
    rw [hd']
    exact br_t (nI_le (Nat.le_refl s) (by omega)) (nm_r (zs_m1 E) (H2 rfl mt hm))
  | succ k ih =>
    intro d n mt hd hn hm H1 H2
    obtain ⟨n, rfl⟩ : ∃ m, n = m + 1 := ⟨n - 1, by omega⟩
    have hlo := zs_lo_le sN lN E d
    have hlt : ¬ nI s ≤ nI d := nI_ge (by omega) (by omega)
    refine br_f hlt ⟨d + 1, zs_y45 (sN := sN) (by omega) hnS (fun h6 => H1 _ (zs_res6 h6) mt) (fun hn6 => ?_) (d + 1) 0 (by omega) (by omega) (fun e he => absurd he (by omega))⟩
    refine ⟨E + 1, zs_y85 (sN := sN) (lN := lN) (by omega) (by omega) hnS hnL (fun h0 mt hmm => ?_) (fun j hj mt hmm => ?_) (E + 1) E _ hlo (Nat.le_refl E) (by omega) (fun e he => ?_) (fun hcc => ?_)⟩
    · exact ih (d + 1) n mt (by omega) (by omega) hmm (fun r hr => H1 r ((zs_res0 hn6 h0).trans hr)) (fun hr => H2 ((zs_res0 hn6 h0).trans hr))
    · have hj2 := zs_c_in hj
      refine HC d j (by omega) (by omega) _ mt ?_
      exact br_c (fun hp => nm_r (nI_1 d) (ih (d + 1) n mt (by omega) (by omega) hmm (fun r hr => H1 r ((zs_res1 hn6 hj hp).trans hr)) (fun hr => H2 ((zs_res1 hn6 hj hp).trans hr)))) (fun hp => H1 _ (zs_resm hn6 hj hp) mt)
    · have hne : e ≠ d := by omega
      rw [pk_un hne]
      exact hm e he
    · have hcl := zs_c_le sN lN E d
      have h0 : zs_c sN lN E d = 0 := by omega
      rw [pk_us, h0]
      rfl
theorem zs_y7 (hl : l ≤ 4) (hE : E ≤ l) (hbL : ∀ i, i < 4 → bt (4 + i) = lF i) (hE1 : ∀ i, i < E → ¬ lF i &&& 6 = 0) (hE2 : E = l ∨ lF E &&& 6 = 0)
    (K : ∃ n, wY_layout_35 post (nI E) (nI s) (nI l) 0 n 0 nm ud bt mt sl) :
    ∀ (m i : Nat), i ≤ E → E - i < m → wY_layout_7 post (nI s) (nI l) 0 nm ud bt mt sl m (nI i) := by
  intro m
  induction m with
  | zero => intro i _ h; exact absurd h (by omega)
  | succ m ih =>
    intro i h1 hm
    by_cases hil : i = l
    · have e : i = E := by omega
      have hle : nI l ≤ nI i := nI_le (by omega) (by omega)
      rw [e] at hle ⊢
      exact br_t hle K
    · have hlt : ¬ nI l ≤ nI i := nI_ge (by omega) (by omega)
      have e4 : (4 : Int32) + nI i = nI (4 + i) := nI_add 4 i
      refine br_f hlt ?_
      rw [e4]
      refine zs_bit (by omega) ?_
      by_cases hiE : i = E
      · have hb : zs_b (bt (4 + i)) 6 = 0 := by
          rw [hbL i (by omega), hiE]
          rcases hE2 with h | h
          · omega
          · exact zs_b0 h
        rw [hb, hiE]
        exact br_t rfl K
      · have hb : zs_b (bt (4 + i)) 6 = 1 := by
          rw [hbL i (by omega)]
          exact zs_b1 (hE1 i (by omega))
        rw [hb]
        exact br_f (by decide) (nm_r (nI_1 i) (ih (i + 1) (by omega) (by omega)))
theorem zs_ylay {cf : Nat → Nat → Int32} {q0 : Int32} (hs : s ≤ 4) (hl : l ≤ 4) (hE : E ≤ l) (hnS : ∀ i, i < 4 → nm i = sN i) (hnL : ∀ i, i < 4 → nm (4 + i) = lN i) (hbL : ∀ i, i < 4 → bt (4 + i) = lF i) (hE1 : ∀ i, i < E → ¬ lF i &&& 6 = 0) (hE2 : E = l ∨ lF E &&& 6 = 0)
    (HC : ∀ (d j : Nat), d < s → j < l → ∀ (q : Int32 → Prop) (mt : Nat → Int32), q (cf d j) → wpY_compatible q (nI s, nI l, 0, nm, ud, bt, mt, sl) (nI d) (nI j))
    (H1 : ∀ r, zs_res cf sN lN E s 0 = some r → ∀ mt : Nat → Int32, post r (nI s, nI l, 0, nm, ud, bt, mt, sl))
    (H2 : zs_res cf sN lN E s 0 = none → ∀ mt sl : Nat → Int32, zs_Z sl (zs_T sN lN E s).reverse → post (nI (zs_T sN lN E s).length) (nI s, nI l, nI (zs_T sN lN E s).length, nm, ud, bt, mt, sl)) :
    wpY_layout post (nI s, nI l, q0, nm, ud, bt, mt, sl) := by
  have hT8 : (zs_T sN lN E s).reverse.length ≤ 8 := by
    rw [List.length_reverse]
    exact zs_T_le sN lN (by omega) hs
  have H3 : zs_res cf sN lN E s 0 = none → ∀ mt : Nat → Int32, (∀ e, e < s → mt e = zs_mv (zs_c sN lN E e)) → ∃ m, wY_layout_161 post m (zs_mv E) (nI s) (nI l) 0 nm ud bt mt sl := by
    intro hr mt hm
    refine ⟨E + 1, zs_y161 (sN := sN) (lN := lN) (E := E) (TT := (zs_T sN lN E s).reverse) (rest := (zs_L sN lN E s).reverse) (by omega) hs hm hT8 (fun R sl hZ hR => ⟨s + 1, zs_y192 (sN := sN) (lN := lN) (E := E) (TT := (zs_T sN lN E s).reverse) (by omega) hs hm hT8 (fun sl hZ => ?_) s (s + 1) R sl (Nat.le_refl s) (by omega) hZ hR⟩) (E + 1) E [] sl (by omega) (by omega) zs_Z_nil ?_⟩
    · rw [List.length_reverse]
      exact H2 hr mt sl hZ
    · unfold zs_T
      rw [List.reverse_append]
      rfl
  have K : ∃ n, wY_layout_35 post (nI E) (nI s) (nI l) 0 n 0 nm ud bt mt sl :=
    ⟨s + 1, zs_y35 hs hE hl hnS hnL HC s 0 (s + 1) mt (Nat.zero_add s) (by omega) (fun e he => absurd he (by omega)) H1 H3⟩
  exact Exists.intro (E + 1) (zs_y7 hl hE hbL hE1 hE2 K (E + 1) 0 (Nat.zero_le E) (by omega))
end
end
section
def zs_J {α : Type} (nm a b : Nat → α) : Prop := ∀ i, i < 4 → nm i = a i ∧ nm (4 + i) = b i
theorem zs_J_s {nm a b : Nat → Int32} {v : Int32} {k : Nat} (hk : k < 4) (h : zs_J nm a b) : zs_J (upd nm k v) (upd a k v) b := by
  intro i hi
  have ⟨h1, h2⟩ := h i hi
  have hne : 4 + i ≠ k := by omega
  refine ⟨?_, (pk_un hne).trans h2⟩
  by_cases e : i = k
  · rw [e, pk_us, pk_us]
  · rw [pk_un e, pk_un e]; exact h1
theorem zs_J_l {nm a b : Nat → Int32} {v : Int32} {k : Nat} (hk : k < 4) (h : zs_J nm a b) : zs_J (upd nm (4 + k) v) a (upd b k v) := by
  intro i hi
  have ⟨h1, h2⟩ := h i hi
  have hne : i ≠ 4 + k := by omega
  refine ⟨(pk_un hne).trans h1, ?_⟩
  by_cases e : i = k
  · rw [e, pk_us, pk_us]
  · have hne2 : 4 + i ≠ 4 + k := by omega
    rw [pk_un e, pk_un hne2]; exact h2
theorem zs_JL_s {nm a b : Nat → Int64} {v : Int64} {k : Nat} (hk : k < 4) (h : zs_J nm a b) : zs_J (vp_updL nm k v) (vp_updL a k v) b := by
  intro i hi
  have ⟨h1, h2⟩ := h i hi
  have hne : 4 + i ≠ k := by omega
  refine ⟨?_, (pk_uLn hne).trans h2⟩
  by_cases e : i = k
  · rw [e, pk_uLs, pk_uLs]
  · rw [pk_uLn e, pk_uLn e]; exact h1
theorem zs_JL_l {nm a b : Nat → Int64} {v : Int64} {k : Nat} (hk : k < 4) (h : zs_J nm a b) : zs_J (vp_updL nm (4 + k) v) a (vp_updL b k v) := by
  intro i hi
  have ⟨h1, h2⟩ := h i hi
  have hne : i ≠ 4 + k := by omega
  refine ⟨(pk_uLn hne).trans h1, ?_⟩
  by_cases e : i = k
  · rw [e, pk_uLs, pk_uLs]
  · have hne2 : 4 + i ≠ 4 + k := by omega
    rw [pk_uLn e, pk_uLn hne2]; exact h2
theorem zs_fl (x : Int32) : x &&& 6 = 6 ↔ (¬ x &&& 2 = 0 ∧ ¬ x &&& 4 = 0) := by
  have key : ∀ k, k < 8 → (nI k &&& 6 = 6 ↔ (¬ nI k &&& 2 = 0 ∧ ¬ nI k &&& 4 = 0)) := by decide +kernel
  have z := key _ (Nat.mod_lt x.toBitVec.toNat (by decide : 0 < 2 ^ 3))
  rw [← pk_and x (m := 7) 3 (by decide), Int32.and_assoc, Int32.and_assoc, Int32.and_assoc] at z
  exact z

/-- the same counts; the joint arrays of the reference against the two chains; the slots decoded -/
def i_Rel (_ : Nat) (u : SX) (v : SY) : Prop := ∃ (s l n : Nat) (sN : Nat → Int32) (sU : Nat → Int64) (sF lN : Nat → Int32) (lU : Nat → Int64) (lF sc sd nm : Nat → Int32) (ud : Nat → Int64) (bt mt sl : Nat → Int32), u = (nI s, nI l, nI n, sN, sU, sF, lN, lU, lF, sc, sd) ∧ v = (nI s, nI l, nI n, nm, ud, bt, mt, sl) ∧ s ≤ 4 ∧ l ≤ 4 ∧ n ≤ 8 ∧ zs_J nm sN lN ∧ zs_J ud sU lU ∧ zs_J bt sF lF ∧ (∀ i, i < n → zs_G (sl i) (sc i) (sd i))
theorem zs_mk {k s l n : Nat} {sN : Nat → Int32} {sU : Nat → Int64} {sF lN : Nat → Int32} {lU : Nat → Int64} {lF sc sd nm : Nat → Int32} {ud : Nat → Int64} {bt mt sl : Nat → Int32} (hs : s ≤ 4) (hl : l ≤ 4) (hn : n ≤ 8) (h1 : zs_J nm sN lN) (h2 : zs_J ud sU lU) (h3 : zs_J bt sF lF) (hG : ∀ i, i < n → zs_G (sl i) (sc i) (sd i)) : i_Rel k (nI s, nI l, nI n, sN, sU, sF, lN, lU, lF, sc, sd) (nI s, nI l, nI n, nm, ud, bt, mt, sl) :=
  ⟨s, l, n, sN, sU, sF, lN, lU, lF, sc, sd, nm, ud, bt, mt, sl, rfl, rfl, hs, hl, hn, h1, h2, h3, hG⟩
theorem zs_mk0 {k s l : Nat} {sN : Nat → Int32} {sU : Nat → Int64} {sF lN : Nat → Int32} {lU : Nat → Int64} {lF sc sd nm : Nat → Int32} {ud : Nat → Int64} {bt mt sl : Nat → Int32} (hs : s ≤ 4) (hl : l ≤ 4) (h1 : zs_J nm sN lN) (h2 : zs_J ud sU lU) (h3 : zs_J bt sF lF) : i_Rel k (nI s, nI l, 0, sN, sU, sF, lN, lU, lF, sc, sd) (nI s, nI l, 0, nm, ud, bt, mt, sl) :=
  zs_mk (n := 0) hs hl (by omega) h1 h2 h3 (fun i hi => absurd hi (by omega))
theorem zs_el {P : SX → SY → Prop} {k : Nat} {u : SX} {v : SY} (h : ∀ (s l n : Nat) (sN : Nat → Int32) (sU : Nat → Int64) (sF lN : Nat → Int32) (lU : Nat → Int64) (lF sc sd nm : Nat → Int32) (ud : Nat → Int64) (bt mt sl : Nat → Int32), s ≤ 4 → l ≤ 4 → n ≤ 8 → zs_J nm sN lN → zs_J ud sU lU → zs_J bt sF lF → (∀ i, i < n → zs_G (sl i) (sc i) (sd i)) → P (nI s, nI l, nI n, sN, sU, sF, lN, lU, lF, sc, sd) (nI s, nI l, nI n, nm, ud, bt, mt, sl)) (I : i_Rel k u v) : P u v := by
  obtain ⟨s, l, n, sN, sU, sF, lN, lU, lF, sc, sd, nm, ud, bt, mt, sl, eu, ev, hs, hl, hn, h1, h2, h3, hG⟩ := I
  rw [eu, ev]
  exact h s l n sN sU sF lN lU lF sc sd nm ud bt mt sl hs hl hn h1 h2 h3 hG
theorem i_up {k : Nat} {u : SX} {v : SY} (h : i_Rel k u v) : i_Rel (k + 5) u v := h
theorem i_vc0 : wpX_init (fun u => wpY_init (fun v => i_Rel 0 u v)) :=
  zs_mk0 (k := 0) (s := 0) (l := 0) (by omega) (by omega) (fun _ _ => ⟨rfl, rfl⟩) (fun _ _ => ⟨rfl, rfl⟩) (fun _ _ => ⟨rfl, rfl⟩)

section
variable {post : Int32 → SX → Prop} {py : Int32 → SY → Prop} {s l : Nat} {f1 f2 f3 : Int32} {sN lN sF lF sc sd nm bt mt sl : Nat → Int32} {sU lU ud : Nat → Int64} {x1 x4 : Int32} {x2 : Int64}
theorem zs_x44 (hs : s < 4) (h : post (nI s) (nI (s + 1), f2, 0, upd sN s (vp_nar .short x1.toInt16.toInt32), vp_updL sU s x2, upd sF s (vp_nar .byte x4.toInt8.toInt32), lN, lU, lF, sc, sd)) : wX_pushStream_44 post x1 x2 x4 (nI s) f2 f3 sN sU sF lN lU lF sc sd := by
  have hi : vp_in (nI s) 4 := vp_in_nI hs (by omega)
  refine And.intro hi ?_
  rw [nI_clamp (n := s) (by omega)]
  exact nm_e ⟨hi, nm_e ⟨hi, nm_e (nm_r (nI_1 s) h)⟩⟩
theorem zs_yput {p : SY → Prop} {k : Nat} (hk : k < 8) (h : p (f1, f2, 0, upd nm k (vp_nar .short x1.toInt16.toInt32), vp_updL ud k x2, upd bt k (vp_nar .byte x4.toInt8.toInt32), mt, sl)) : wpY_put p (f1, f2, f3, nm, ud, bt, mt, sl) (nI k) x1 x2 x4 := by
  have hi : vp_in (nI k) 8 := vp_in_nI hk (by omega)
  refine And.intro hi ?_
  rw [nI_clamp (n := k) (by omega)]
  exact nm_e ⟨hi, nm_e ⟨hi, nm_e h⟩⟩
theorem zs_y40 (hs : s < 4) (h : py (nI s) (nI (s + 1), f2, 0, upd nm s (vp_nar .short x1.toInt16.toInt32), vp_updL ud s x2, upd bt s (vp_nar .byte x4.toInt8.toInt32), mt, sl)) : wY_pushStream_40 py x1 x2 x4 (nI s) f2 f3 nm ud bt mt sl := by
  unfold wY_pushStream_40
  refine zs_yput (by omega) ?_
  exact nm_r (nI_1 s) h
theorem zs_x52 (hl : l < 4) (h : post (nI l) (f1, nI (l + 1), 0, sN, sU, sF, lN, lU, upd lF l (vp_nar .byte x4.toInt8.toInt32), sc, sd)) : wX_pushLocal_52 post x4 (nI l) f1 f2 f3 sN sU sF lN lU lF sc sd := by
  have hi : vp_in (nI l) 4 := vp_in_nI hl (by omega)
  refine And.intro hi ?_
  rw [nI_clamp (n := l) (by omega)]
  exact nm_e (nm_r (nI_1 l) h)
theorem zs_y31 (hl : l < 4) (h : py (nI l) (f1, nI (l + 1), 0, upd nm (4 + l) (vp_nar .short x1.toInt16.toInt32), vp_updL ud (4 + l) x2, upd bt (4 + l) (vp_nar .byte x4.toInt8.toInt32), mt, sl)) : wY_pushLocal_31 py x4 x2 x1 (4 + nI l) f1 (nI l) f3 nm ud bt mt sl := by
  have e4 : (4 : Int32) + nI l = nI (4 + l) := nI_add 4 l
  unfold wY_pushLocal_31
  rw [e4]
  refine zs_yput (by omega) ?_
  exact nm_r (nI_1 l) h
end

theorem i_vc_pushStream {k : Nat} {u : SX} {v : SY} (I : i_Rel k u v) (hk : k + 5 ≤ 2560) (v1 : Int32) (a1 : Int64) (v4 : Int32) : wpX_pushStream (fun r u' => wpY_pushStream (fun r' v' => r' = r ∧ i_Rel (k + 5) u' v') v v1 a1 v4) u v1 a1 v4 := by
  refine zs_el (P := fun u v => wpX_pushStream (fun r u' => wpY_pushStream (fun r' v' => r' = r ∧ i_Rel (k + 5) u' v') v v1 a1 v4) u v1 a1 v4) ?_ I
  intro s l n sN sU sF lN lU lF sc sd nm ud bt mt sl hs hl hn h1 h2 h3 hG
  have same : i_Rel (k + 5) (nI s, nI l, nI n, sN, sU, sF, lN, lU, lF, sc, sd) (nI s, nI l, nI n, nm, ud, bt, mt, sl) := zs_mk hs hl hn h1 h2 h3 hG
  by_cases h4 : s < 4
  · have hlt : nI s < 4 := nI_lt (b := 4) h4 (by omega)
    by_cases h6 : v4 &&& 6 = 6
    · have ⟨n2, n4⟩ := (zs_fl v4).mp h6
      exact br_t hlt (br_f n2 (br_f n4 (br_t hlt (br_t h6 ⟨rfl, same⟩))))
    · have key : ∀ post : Int32 → SX → Prop, wX_pushStream_27 post v1 a1 v4 (nI s) (nI l) (nI n) sN sU sF lN lU lF sc sd → wpX_pushStream post (nI s, nI l, nI n, sN, sU, sF, lN, lU, lF, sc, sd) v1 a1 v4 := by
        intro post h
        by_cases hA : v4 &&& 2 = 0
        · exact br_t hlt (br_t hA h)
        · by_cases hB : v4 &&& 4 = 0
          · exact br_t hlt (br_f hA (br_t hB h))
          · exact absurd ((zs_fl v4).mpr ⟨hA, hB⟩) h6
      have next : i_Rel (k + 5) (nI (s + 1), nI l, 0, upd sN s (vp_nar .short v1.toInt16.toInt32), vp_updL sU s a1, upd sF s (vp_nar .byte v4.toInt8.toInt32), lN, lU, lF, sc, sd) (nI (s + 1), nI l, 0, upd nm s (vp_nar .short v1.toInt16.toInt32), vp_updL ud s a1, upd bt s (vp_nar .byte v4.toInt8.toInt32), mt, sl) := zs_mk0 h4 hl (zs_J_s h4 h1) (zs_JL_s h4 h2) (zs_J_s h4 h3)
      refine key _ ?_
      by_cases h16 : v4 &&& 16 = 0
      · exact br_t h16 (zs_x44 h4 (br_t hlt (br_f h6 (br_t h16 (zs_y40 h4 ⟨rfl, next⟩)))))
      · by_cases ha : a1 = 0
        · exact br_f h16 (br_t ha (zs_x44 h4 (br_t hlt (br_f h6 (br_f h16 (br_t ha (zs_y40 h4 ⟨rfl, next⟩)))))))
        · exact br_f h16 (br_f ha (br_t hlt (br_f h6 (br_f h16 (br_f ha ⟨rfl, same⟩)))))
  · have hge : ¬ nI s < 4 := nI_nlt (b := 4) (by omega) (by omega)
    exact br_f hge (br_f hge ⟨rfl, same⟩)
theorem i_vc_pushLocal {k : Nat} {u : SX} {v : SY} (I : i_Rel k u v) (hk : k + 5 ≤ 2560) (v1 : Int32) (a1 : Int64) (v4 : Int32) : wpX_pushLocal (fun r u' => wpY_pushLocal (fun r' v' => r' = r ∧ i_Rel (k + 5) u' v') v v1 a1 v4) u v1 a1 v4 := by
  refine zs_el (P := fun u v => wpX_pushLocal (fun r u' => wpY_pushLocal (fun r' v' => r' = r ∧ i_Rel (k + 5) u' v') v v1 a1 v4) u v1 a1 v4) ?_ I
  intro s l n sN sU sF lN lU lF sc sd nm ud bt mt sl hs hl hn h1 h2 h3 hG
  by_cases h4 : l < 4
  · have hlt : nI l < 4 := nI_lt (b := 4) h4 (by omega)
    have hi : vp_in (nI l) 4 := vp_in_nI h4 (by omega)
    have next : ∀ a2 : Int64, i_Rel (k + 5) (nI s, nI (l + 1), 0, sN, sU, sF, upd lN l (vp_nar .short v1.toInt16.toInt32), vp_updL lU l a2, upd lF l (vp_nar .byte v4.toInt8.toInt32), sc, sd) (nI s, nI (l + 1), 0, upd nm (4 + l) (vp_nar .short v1.toInt16.toInt32), vp_updL ud (4 + l) a2, upd bt (4 + l) (vp_nar .byte v4.toInt8.toInt32), mt, sl) := fun a2 => zs_mk0 hs h4 (zs_J_l h4 h1) (zs_JL_l h4 h2) (zs_J_l h4 h3)
    refine br_t hlt ⟨hi, ?_⟩
    rw [nI_clamp (n := l) (by omega)]
    by_cases h16 : v4 &&& 16 = 0
    · exact nm_e (br_t h16 ⟨hi, nm_e (zs_x52 h4 (br_t hlt (br_t h16 (zs_y31 h4 ⟨rfl, next a1⟩))))⟩)
    · exact nm_e (br_f h16 ⟨hi, nm_e (zs_x52 h4 (br_t hlt (br_f h16 (zs_y31 h4 ⟨rfl, next 0⟩))))⟩)
  · have hge : ¬ nI l < 4 := nI_nlt (b := 4) (by omega) (by omega)
    exact br_f hge (br_f hge ⟨rfl, zs_mk hs hl hn h1 h2 h3 hG⟩)
theorem zs_cfe {sF lF bt sN lN nm : Nat → Int32} {sU lU ud : Nat → Int64} {i j : Nat} (hi : i < 4) (hj : j < 4) (h1 : zs_J nm sN lN) (h2 : zs_J ud sU lU) (h3 : zs_J bt sF lF) : zs_cf (bt i) (bt (4 + j)) (ud i) (ud (4 + j)) (nm i) (nm (4 + j)) = zs_cf (sF i) (lF j) (sU i) (lU j) (sN i) (lN j) := by
  rw [(h1 i hi).1, (h1 j hj).2, (h2 i hi).1, (h2 j hj).2, (h3 i hi).1, (h3 j hj).2]
theorem i_vc_compatible {k : Nat} {u : SX} {v : SY} (I : i_Rel k u v) (hk : k + 5 ≤ 2560) (v1 : Int32) (v2 : Int32) : wpX_compatible (fun r => wpY_compatible (fun r' => r' = r ∧ i_Rel (k + 5) u v) v v1 v2) u v1 v2 := by
  refine zs_el (P := fun u v => wpX_compatible (fun r => wpY_compatible (fun r' => r' = r ∧ i_Rel (k + 5) u v) v v1 v2) u v1 v2) ?_ I
  intro s l n sN sU sF lN lU lF sc sd nm ud bt mt sl hs hl hn h1 h2 h3 hG
  have same : i_Rel (k + 5) (nI s, nI l, nI n, sN, sU, sF, lN, lU, lF, sc, sd) (nI s, nI l, nI n, nm, ud, bt, mt, sl) := zs_mk hs hl hn h1 h2 h3 hG
  by_cases c1 : v1 < 0
  · exact br_t c1 (br_t c1 ⟨rfl, same⟩)
  · by_cases c2 : nI s ≤ v1
    · exact br_f c1 (br_t c2 (br_f c1 (br_t c2 ⟨rfl, same⟩)))
    · by_cases c3 : v2 < 0
      · exact br_f c1 (br_f c2 (br_t c3 (br_f c1 (br_f c2 (br_t c3 ⟨rfl, same⟩)))))
      · by_cases c4 : v2 < nI l
        · obtain ⟨i, hi, rfl⟩ := nI_of c1
          obtain ⟨j, hj, rfl⟩ := nI_of c3
          have hi2 : i < s := by
            rw [nI_leI (by omega) hi] at c2
            omega
          have hj2 : j < l := by
            rw [nI_ltI hj (by omega)] at c4
            exact c4
          exact zs_xcmp hs hl hi2 hj2 (zs_ycmp hs hl hi2 hj2 ⟨zs_cfe (by omega) (by omega) h1 h2 h3, same⟩)
        · exact br_f c1 (br_f c2 (br_f c3 (br_f c4 (br_f c1 (br_f c2 (br_f c3 (br_f c4 ⟨rfl, same⟩)))))))
theorem i_vc_layout {k : Nat} {u : SX} {v : SY} (I : i_Rel k u v) (hk : k + 5 ≤ 2560) : wpX_layout (fun r u' => wpY_layout (fun r' v' => r' = r ∧ i_Rel (k + 5) u' v') v) u := by
  refine zs_el (P := fun u v => wpX_layout (fun r u' => wpY_layout (fun r' v' => r' = r ∧ i_Rel (k + 5) u' v') v) u) ?_ I
  intro s l n sN sU sF lN lU lF sc sd nm ud bt mt sl hs hl hn h1 h2 h3 hG
  obtain ⟨E, hE, hE1, hE2⟩ := zs_first (fun i => lF i &&& 6 = 0) l
  have hT8 := zs_T_le sN lN (E := E) (s := s) (by omega) hs
  have hY : ∀ (py : Int32 → SY → Prop),
      (∀ r, zs_res (fun d j => zs_cf (sF d) (lF j) (sU d) (lU j) (sN d) (lN j)) sN lN E s 0 = some r → ∀ mt : Nat → Int32, py r (nI s, nI l, 0, nm, ud, bt, mt, sl)) →
      (zs_res (fun d j => zs_cf (sF d) (lF j) (sU d) (lU j) (sN d) (lN j)) sN lN E s 0 = none → ∀ mt sl : Nat → Int32, zs_Z sl (zs_T sN lN E s).reverse → py (nI (zs_T sN lN E s).length) (nI s, nI l, nI (zs_T sN lN E s).length, nm, ud, bt, mt, sl)) →
      wpY_layout py (nI s, nI l, nI n, nm, ud, bt, mt, sl) := by
    intro py H1 H2
    refine zs_ylay (cf := fun d j => zs_cf (sF d) (lF j) (sU d) (lU j) (sN d) (lN j)) hs hl hE (fun i hi => (h1 i hi).1) (fun i hi => (h1 i hi).2) (fun i hi => (h3 i hi).2) hE1 hE2 (fun d j hd hj q mt hq => zs_ycmp hs hl hd hj ?_) H1 H2
    rw [zs_cfe (by omega) (by omega) h1 h2 h3]
    exact hq
  refine zs_xlay (cf := fun d j => zs_cf (sF d) (lF j) (sU d) (lU j) (sN d) (lN j)) hs hl hE hE1 hE2 (fun d j hd hj q sc sd hq => zs_xcmp hs hl hd hj hq) (fun r hr sc sd => ?_) (fun hr sc sd hS => ?_)
  · refine hY _ (fun r' hr' mt => ⟨Option.some.inj (hr'.symm.trans hr), zs_mk0 hs hl h1 h2 h3⟩) (fun hr' => ?_)
    exact absurd (hr'.symm.trans hr) (by simp)
  · refine hY _ (fun r' hr' => ?_) (fun hr' mt sl hZ => ⟨rfl, zs_mk hs hl hT8 h1 h2 h3 (fun i hi => ?_)⟩)
    · exact absurd (hr'.symm.trans hr) (by simp)
    · have hi2 : i < (zs_T sN lN E s).reverse.length := by
        rw [List.length_reverse]
        exact hi
      have hx : (zs_T sN lN E s).reverse[i]? = some ((zs_T sN lN E s).reverse[i]) := List.getElem?_eq_getElem hi2
      rw [(hS i _ hx).1, (hS i _ hx).2]
      exact hZ i _ hx
theorem i_vc_slotClassAt {k : Nat} {u : SX} {v : SY} (I : i_Rel k u v) (hk : k + 5 ≤ 2560) (v1 : Int32) : wpX_slotClassAt (fun r => wpY_slotClassAt (fun r' => r' = r ∧ i_Rel (k + 5) u v) v v1) u v1 := by
  refine zs_el (P := fun u v => wpX_slotClassAt (fun r => wpY_slotClassAt (fun r' => r' = r ∧ i_Rel (k + 5) u v) v v1) u v1) ?_ I
  intro s l n sN sU sF lN lU lF sc sd nm ud bt mt sl hs hl hn h1 h2 h3 hG
  have same : i_Rel (k + 5) (nI s, nI l, nI n, sN, sU, sF, lN, lU, lF, sc, sd) (nI s, nI l, nI n, nm, ud, bt, mt, sl) := zs_mk hs hl hn h1 h2 h3 hG
  by_cases c1 : v1 < 0
  · exact br_t c1 (br_t c1 ⟨rfl, same⟩)
  · by_cases c2 : v1 < nI n
    · obtain ⟨j, hj, rfl⟩ := nI_of c1
      have hj2 : j < n := by
        rw [nI_ltI hj (by omega)] at c2
        exact c2
      have hin : vp_in (nI j) 8 := vp_in_nI (by omega) (by omega)
      refine br_f c1 (br_t c2 ⟨hin, br_f c1 (br_t c2 ?_)⟩)
      rw [zs_and7 (by omega), nI_clamp (n := j) hj]
      exact ⟨hin, (hG j hj2).1, same⟩
    · exact br_f c1 (br_f c2 (br_f c1 (br_f c2 ⟨rfl, same⟩)))
theorem i_vc_slotHasData {k : Nat} {u : SX} {v : SY} (I : i_Rel k u v) (hk : k + 5 ≤ 2560) (v1 : Int32) : wpX_slotHasData (fun r => wpY_slotHasData (fun r' => r' = r ∧ i_Rel (k + 5) u v) v v1) u v1 := by
  refine zs_el (P := fun u v => wpX_slotHasData (fun r => wpY_slotHasData (fun r' => r' = r ∧ i_Rel (k + 5) u v) v v1) u v1) ?_ I
  intro s l n sN sU sF lN lU lF sc sd nm ud bt mt sl hs hl hn h1 h2 h3 hG
  have same : i_Rel (k + 5) (nI s, nI l, nI n, sN, sU, sF, lN, lU, lF, sc, sd) (nI s, nI l, nI n, nm, ud, bt, mt, sl) := zs_mk hs hl hn h1 h2 h3 hG
  by_cases c1 : v1 < 0
  · exact br_t c1 (br_t c1 ⟨rfl, same⟩)
  · by_cases c2 : v1 < nI n
    · obtain ⟨j, hj, rfl⟩ := nI_of c1
      have hj2 : j < n := by
        rw [nI_ltI hj (by omega)] at c2
        exact c2
      have hin : vp_in (nI j) 8 := vp_in_nI (by omega) (by omega)
      have cj : (nI j).toNatClampNeg = j := nI_clamp hj
      have e7 : nI j &&& 7 = nI j := zs_and7 (by omega)
      have hY : ∀ r : Int32, sl j &&& 1 = r → wpY_slotHasData (fun r' => r' = r ∧ i_Rel (k + 5) (nI s, nI l, nI n, sN, sU, sF, lN, lU, lF, sc, sd) (nI s, nI l, nI n, nm, ud, bt, mt, sl)) (nI s, nI l, nI n, nm, ud, bt, mt, sl) (nI j) := by
        intro r hr
        refine br_f c1 (br_t c2 ?_)
        rw [e7, cj]
        exact ⟨hin, hr, same⟩
      refine br_f c1 (br_t c2 ⟨hin, ?_⟩)
      rw [cj]
      refine br_c (fun z => hY 0 ((hG j hj2).2.1.trans z)) (fun z => hY 1 ((hG j hj2).2.1.trans ?_))
      rcases (hG j hj2).2.2 with h | h
      · exact absurd h z
      · exact h
    · exact br_f c1 (br_f c2 (br_f c1 (br_f c2 ⟨rfl, same⟩)))
end
