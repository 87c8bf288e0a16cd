section
/-- the text L stands at place p of f -/
def qb_tx (f : Nat → Int32) : Nat → List Int32 → Prop
  | _, [] => True
  | p, b :: L => f p = b ∧ qb_tx f (p + 1) L
theorem qb_tx_app {f : Nat → Int32} : ∀ {L M : List Int32} {p : Nat}, qb_tx f p (L ++ M) ↔ qb_tx f p L ∧ qb_tx f (p + L.length) M := by
  intro L
  induction L with
  | nil => intro M p; simp [qb_tx]
  | cons b L ih =>
    intro M p
    simp only [List.cons_append, qb_tx, ih, List.length_cons, and_assoc]
    rw [show p + 1 + L.length = p + (L.length + 1) by omega]
theorem qb_tx_cg {f g : Nat → Int32} : ∀ {L : List Int32} {p : Nat}, (∀ i, p ≤ i → i < p + L.length → g i = f i) → qb_tx f p L → qb_tx g p L := by
  intro L
  induction L with
  | nil => intro p _ _; trivial
  | cons b L ih =>
    intro p h t
    refine ⟨?_, ih (fun i h1 h2 => h i (by omega) (by simp only [List.length_cons]; omega)) t.2⟩
    rw [h p (Nat.le_refl p) (by simp only [List.length_cons]; omega)]
    exact t.1
theorem qb_tx_get {f : Nat → Int32} : ∀ {L : List Int32} {p : Nat}, (∀ i, i < L.length → f (p + i) = L.getD i 0) → qb_tx f p L := by
  intro L
  induction L with
  | nil => intro p _; trivial
  | cons b L ih =>
    intro p h
    refine ⟨?_, ih (fun i hi => ?_)⟩
    · have := h 0 (by simp only [List.length_cons]; omega)
      rw [Nat.add_zero, List.getD_cons_zero] at this
      exact this
    · have := h (i + 1) (by simp only [List.length_cons]; omega)
      rw [List.getD_cons_succ] at this
      rw [show p + 1 + i = p + (i + 1) by omega]
      exact this
theorem qb_getD_l {T : List Int32} {b : Int32} {i : Nat} (h : i < T.length) : (T ++ [b]).getD i 0 = T.getD i 0 := by
  rw [List.getD_eq_getElem?_getD, List.getD_eq_getElem?_getD, List.getElem?_append_left h]
theorem qb_getD_r {T : List Int32} {b : Int32} : (T ++ [b]).getD T.length 0 = b := by
  rw [List.getD_eq_getElem?_getD, List.getElem?_append_right (Nat.le_refl _)]
  simp
theorem qb_getD_mem {T : List Int32} {i : Nat} (h : i < T.length) : T.getD i 0 ∈ T := by
  rw [List.getD_eq_getElem?_getD, List.getElem?_eq_getElem h]
  exact List.getElem_mem h
/-- the file behind T written to half h, of which W bytes are really written -/
def qb_fw (A : Nat → Int32) (h W : Nat) (T : List Int32) : Nat → Int32 :=
  fun q => if 3700 * h ≤ q ∧ q < 3700 * h + T.length ∧ q < 3700 * h + W then (T.getD (q - 3700 * h) 0).toInt8.toInt32 else A q
/-- what is read of half h -/
def qb_rf (a : Nat → Int32) (h : Nat) : Nat → Int32 := fun p => a (3700 * h + p) &&& 255
/-- the scratch behind T -/
def qb_sw (B : Nat → Int32) (T : List Int32) : Nat → Int32 := fun q => if q < T.length then T.getD q 0 else B q
/-- a byte -/
def qb_by (b : Int32) : Prop := b.toInt8.toInt32 &&& 255 = b
theorem qb_by_n {n : Nat} (h : n < 256) : qb_by (nI n) := sc_k8 n h
theorem qb_fw_nil (A : Nat → Int32) (h W : Nat) : qb_fw A h W [] = A := by
  funext q
  unfold qb_fw
  rw [if_neg]
  simp only [List.length_nil]
  omega
theorem qb_fw_lt {A : Nat → Int32} {h W : Nat} {T : List Int32} {b : Int32} (hT : T.length < W) : upd (qb_fw A h W T) (3700 * h + T.length) b.toInt8.toInt32 = qb_fw A h W (T ++ [b]) := by
  funext q
  by_cases e : q = 3700 * h + T.length
  · rw [e, pk_us]
    unfold qb_fw
    rw [if_pos (by simp only [List.length_append, List.length_cons, List.length_nil]; omega), show 3700 * h + T.length - 3700 * h = T.length by omega, qb_getD_r]
  · rw [pk_un e]
    unfold qb_fw
    by_cases c : 3700 * h ≤ q ∧ q < 3700 * h + T.length ∧ q < 3700 * h + W
    · rw [if_pos c, if_pos (by simp only [List.length_append, List.length_cons, List.length_nil]; omega), qb_getD_l (by omega)]
    · rw [if_neg c, if_neg (by simp only [List.length_append, List.length_cons, List.length_nil]; omega)]
theorem qb_fw_ge {A : Nat → Int32} {h W : Nat} {T : List Int32} {b : Int32} (hT : W ≤ T.length) : qb_fw A h W T = qb_fw A h W (T ++ [b]) := by
  funext q
  unfold qb_fw
  by_cases c : 3700 * h ≤ q ∧ q < 3700 * h + T.length ∧ q < 3700 * h + W
  · rw [if_pos c, if_pos (by simp only [List.length_append, List.length_cons, List.length_nil]; omega), qb_getD_l (by omega)]
  · rw [if_neg c, if_neg (by simp only [List.length_append, List.length_cons, List.length_nil]; omega)]
theorem qb_fw_out {A : Nat → Int32} {h W q : Nat} {T : List Int32} (hq : q < 3700 * h ∨ 3700 * h + T.length ≤ q) : qb_fw A h W T q = A q := by
  unfold qb_fw
  rw [if_neg]
  omega
theorem qb_fw_tx {A : Nat → Int32} {h W : Nat} {T : List Int32} (hT : T.length ≤ W) (hb : ∀ b, b ∈ T → qb_by b) : qb_tx (qb_rf (qb_fw A h W T) h) 0 T := by
  refine qb_tx_get (fun i hi => ?_)
  unfold qb_rf qb_fw
  rw [Nat.zero_add, if_pos (by omega), show 3700 * h + i - 3700 * h = i by omega]
  exact hb _ (qb_getD_mem hi)
theorem qb_sw_nil (B : Nat → Int32) : qb_sw B [] = B := by
  funext q
  unfold qb_sw
  rw [if_neg]
  simp only [List.length_nil]
  omega
theorem qb_sw_s {B : Nat → Int32} {T : List Int32} {b : Int32} : upd (qb_sw B T) T.length b = qb_sw B (T ++ [b]) := by
  funext q
  by_cases e : q = T.length
  · rw [e, pk_us]
    unfold qb_sw
    rw [if_pos (by simp only [List.length_append, List.length_cons, List.length_nil]; omega), qb_getD_r]
  · rw [pk_un e]
    unfold qb_sw
    by_cases c : q < T.length
    · rw [if_pos c, if_pos (by simp only [List.length_append, List.length_cons, List.length_nil]; omega), qb_getD_l c]
    · rw [if_neg c, if_neg (by simp only [List.length_append, List.length_cons, List.length_nil]; omega)]
theorem qb_sw_tx {B : Nat → Int32} {T : List Int32} : qb_tx (qb_sw B T) 0 T := by
  refine qb_tx_get (fun i hi => ?_)
  unfold qb_sw
  rw [Nat.zero_add, if_pos hi]
/-! numbers as text -/
def qb_dg (m : Nat) : Nat → List Int32
  | 0 => [nI (48 + m % 10)]
  | k + 1 => nI (48 + m / 10 ^ (k + 1) % 10) :: qb_dg m k
def qb_lg (m : Nat) : Nat :=
  if m < 10 then 0 else if m < 100 then 1 else if m < 1000 then 2 else if m < 10000 then 3 else if m < 100000 then 4 else if m < 1000000 then 5 else if m < 10000000 then 6 else if m < 100000000 then 7 else if m < 1000000000 then 8 else 9
theorem qb_lg_le (m : Nat) : qb_lg m ≤ 9 := by
  unfold qb_lg
  repeat' split
  all_goals omega
theorem qb_lg_lo {m : Nat} : qb_lg m = 0 ∨ 10 ^ qb_lg m ≤ m := by
  unfold qb_lg
  repeat' split
  all_goals omega
theorem qb_lg_hi {m : Nat} (h : m < 10 ^ 10) : m < 10 ^ (qb_lg m + 1) := by
  unfold qb_lg
  repeat' split
  all_goals omega
theorem qb_dg_len (m : Nat) : ∀ k, (qb_dg m k).length = k + 1 := by
  intro k
  induction k with
  | zero => rfl
  | succ k ih => simp only [qb_dg, List.length_cons, ih]
theorem qb_dg_by (m : Nat) : ∀ k b, b ∈ qb_dg m k → qb_by b := by
  intro k
  induction k with
  | zero =>
    intro b hb
    simp only [qb_dg, List.mem_cons, List.not_mem_nil, or_false] at hb
    rw [hb]
    exact qb_by_n (by omega)
  | succ k ih =>
    intro b hb
    simp only [qb_dg, List.mem_cons] at hb
    rcases hb with hb | hb
    · rw [hb]
      exact qb_by_n (by omega)
    · exact ih b hb
/-- a number's text -/
def qb_nm (z : Int32) : List Int32 :=
  if 0 ≤ z.toInt then qb_dg z.toInt.toNat (qb_lg z.toInt.toNat) else 45 :: qb_dg (-z.toInt).toNat (qb_lg (-z.toInt).toNat)
theorem qb_nm_c (z : Int32) : (∃ m, m ≤ 2 ^ 31 ∧ 0 ≤ z.toInt64 ∧ z.toInt64 = lN m ∧ qb_nm z = qb_dg m (qb_lg m)) ∨ (∃ m, m ≤ 2 ^ 31 ∧ ¬ 0 ≤ z.toInt64 ∧ -z.toInt64 = lN m ∧ qb_nm z = 45 :: qb_dg m (qb_lg m)) := by
  have h1 := z.toInt_lt
  have h2 := z.le_toInt
  have h3 := z.toInt_toInt64
  by_cases h : 0 ≤ z.toInt
  · refine Or.inl ⟨z.toInt.toNat, by omega, ?_, ?_, ?_⟩
    · rw [Int64.le_iff_toInt_le, h3]
      exact h
    · apply Int64.toInt_inj.mp
      rw [h3, pk_lT (by omega)]
      omega
    · unfold qb_nm
      rw [if_pos h]
  · refine Or.inr ⟨(-z.toInt).toNat, by omega, ?_, ?_, ?_⟩
    · rw [Int64.le_iff_toInt_le, h3]
      exact h
    · apply Int64.toInt_inj.mp
      rw [Int64.toInt_neg, h3, pk_lT (by omega), Int.bmod_eq_of_le (by omega) (by omega)]
      omega
    · unfold qb_nm
      rw [if_neg h]
theorem qb_nm_len (z : Int32) : (qb_nm z).length ≤ 11 := by
  rcases qb_nm_c z with ⟨m, _, _, _, e⟩ | ⟨m, _, _, _, e⟩
  · rw [e, qb_dg_len]
    have := qb_lg_le m
    omega
  · rw [e, List.length_cons, qb_dg_len]
    have := qb_lg_le m
    omega
theorem qb_nm_by (z : Int32) : ∀ b, b ∈ qb_nm z → qb_by b := by
  intro b hb
  rcases qb_nm_c z with ⟨m, _, _, _, e⟩ | ⟨m, _, _, _, e⟩
  · rw [e] at hb
    exact qb_dg_by m _ b hb
  · rw [e, List.mem_cons] at hb
    rcases hb with hb | hb
    · rw [hb]
      exact qb_by_n (n := 45) (by omega)
    · exact qb_dg_by m _ b hb
theorem qb_nm_0 : qb_nm 0 = [nI 48] := by
  decide
theorem qb_nm_m1 : qb_nm (-1) = [nI 45, nI 49] := by
  decide
theorem qb_nm_nI {n : Nat} (h : n < 2 ^ 31) : qb_nm (nI n) = qb_dg n (qb_lg n) := by
  unfold qb_nm
  rw [nI_toInt h, if_pos (by omega)]
  rfl
theorem qb_pow_s (k : Nat) : 10 ^ (k + 1) = 10 ^ k * 10 := Nat.pow_succ 10 k
theorem qb_pow_le {k : Nat} (h : k ≤ 10) : 10 ^ k ≤ 10000000000 := Nat.pow_le_pow_right (n := 10) (by omega) h
theorem qb_pow_pos (k : Nat) : 0 < 10 ^ k := Nat.pow_pos (by omega)
theorem qb_dstep (m k : Nat) : m / 10 ^ (k + 1) * 10 + m / 10 ^ k % 10 = m / 10 ^ k := by
  rw [qb_pow_s, ← Nat.div_div_eq_div_mul]
  omega
end
section
section
variable {hn hf ln ll rv ts fr fs iu : Int32} {sl ap wl : List Int32 → Int32} {a1 a2 a3 a4 a5 a6 a8 a10 a11 a12 a13 a14 a15 : Nat → Int32} {a7 a9 : List Int32 → Nat → Int32} {N : Nat} {post : St2 → Prop}
/-- a writer: behind the bytes T of it the state is U a10 T -/
def qb_HB (N : Nat) (U : (Nat → Int32) → List Int32 → St2) : Prop :=
  ∀ (a10 : Nat → Int32) (T : List Int32), T.length < N → (∀ (b : Int32) (post : St2 → Prop), post (U a10 (T ++ [b])) → wpX_bring post (U a10 T) b) ∧ (∀ post : Int32 → Prop, post (nI T.length) → wpX_placeNow post (U a10 T))
theorem qb_l1 (T : List Int32) (b : Int32) : (T ++ [b]).length = T.length + 1 := by simp
theorem qb_dig {m k : Nat} (hm : m ≤ 2 ^ 31) (hk : k ≤ 9) : 48 + (((lN m / lN (10 ^ k)) - (lN m / lN (10 ^ k)) / 10 * 10).toInt32) = nI (48 + m / 10 ^ k % 10) := by
  have h1 := qb_pow_le (k := k) (by omega)
  have h2 := qb_pow_pos k
  have h3 := Nat.div_le_self m (10 ^ k)
  rw [pk_lDiv (by omega) h2 (by omega), show (10 : Int64) = lN 10 from rfl, pk_lRem (by omega) (by omega) (by omega), lN_i, show (48 : Int32) = nI 48 from rfl, nI_add]
theorem qb_lpos {k : Nat} (hk : k ≤ 9) : ¬ lN (10 ^ k) ≤ 0 := by
  have h1 := qb_pow_le (k := k) (by omega)
  have h2 := qb_pow_pos k
  rw [show (0 : Int64) = lN 0 from rfl, pk_lLE (by omega) (by omega)]
  omega
theorem qb_lne {k : Nat} (hk : k ≤ 9) : ¬ lN (10 ^ k) = 0 := by
  have h1 := qb_pow_le (k := k) (by omega)
  have h2 := qb_pow_pos k
  rw [show (0 : Int64) = lN 0 from rfl, pk_lEQ (by omega) (by omega)]
  omega
theorem qb_ldv {k : Nat} (hk : k ≤ 8) : lN (10 ^ (k + 1)) / 10 = lN (10 ^ k) := by
  have h1 := qb_pow_le (k := k + 1) (by omega)
  rw [show (10 : Int64) = lN 10 from rfl, pk_lDiv (by omega) (by omega) (by omega), qb_pow_s, Nat.mul_div_cancel _ (by omega)]
theorem qb_w43 (hU : qb_HB N (fun a10 T => (hn, hf, ln, ll, rv, sl T, ap T, wl T, ts, fr, fs, iu, a1, a2, a3, a4, a5, a6, a7 T, a8, a9 T, a10, a11, a12, a13, a14, a15))) {m : Nat} (hm : m ≤ 2 ^ 31) : ∀ (k : Nat) (T : List Int32), k ≤ 9 → T.length + (k + 1) ≤ N → post (hn, hf, ln, ll, rv, sl (T ++ qb_dg m k), ap (T ++ qb_dg m k), wl (T ++ qb_dg m k), ts, fr, fs, iu, a1, a2, a3, a4, a5, a6, a7 (T ++ qb_dg m k), a8, a9 (T ++ qb_dg m k), a10, a11, a12, a13, a14, a15) → wX_bringNumber_43 post (lN m) (k + 2) (lN (10 ^ k)) hn hf ln ll rv (sl T) (ap T) (wl T) ts fr fs iu a1 a2 a3 a4 a5 a6 (a7 T) a8 (a9 T) a10 a11 a12 a13 a14 a15 := by
  intro k
  induction k with
  | zero =>
    intro T hk hT hp
    refine br_f (qb_lpos hk) ⟨qb_lne hk, by decide, ?_⟩
    rw [qb_dig hm hk]
    refine (hU a10 T (by omega)).1 _ _ ?_
    dsimp only
    refine ⟨by decide, nm_r (e' := 0) (by decide) ?_⟩
    refine br_t (by decide) ?_
    rw [show m / 10 ^ 0 = m by rw [Nat.pow_zero, Nat.div_one]]
    exact hp
  | succ k ih =>
    intro T hk hT hp
    refine br_f (qb_lpos hk) ⟨qb_lne hk, by decide, ?_⟩
    rw [qb_dig hm hk]
    refine (hU a10 T (by omega)).1 _ _ ?_
    dsimp only
    refine ⟨by decide, nm_r (qb_ldv (by omega)) ?_⟩
    refine ih _ (by omega) (by rw [qb_l1]; omega) ?_
    rw [List.append_assoc]
    exact hp
theorem qb_w21 (hU : qb_HB N (fun a10 T => (hn, hf, ln, ll, rv, sl T, ap T, wl T, ts, fr, fs, iu, a1, a2, a3, a4, a5, a6, a7 T, a8, a9 T, a10, a11, a12, a13, a14, a15))) {m : Nat} (hm : m ≤ 2 ^ 31) {T : List Int32} (hT : T.length + (qb_lg m + 1) ≤ N) (hp : post (hn, hf, ln, ll, rv, sl (T ++ qb_dg m (qb_lg m)), ap (T ++ qb_dg m (qb_lg m)), wl (T ++ qb_dg m (qb_lg m)), ts, fr, fs, iu, a1, a2, a3, a4, a5, a6, a7 (T ++ qb_dg m (qb_lg m)), a8, a9 (T ++ qb_dg m (qb_lg m)), a10, a11, a12, a13, a14, a15)) : ∀ d k : Nat, k + d = qb_lg m → wX_bringNumber_21 post (lN m) hn hf ln ll rv (sl T) (ap T) (wl T) ts fr fs iu a1 a2 a3 a4 a5 a6 (a7 T) a8 (a9 T) a10 a11 a12 a13 a14 a15 (d + 1) (lN (10 ^ k)) := by
  have g1 := qb_lg_le m
  have g2 := qb_lg_lo (m := m)
  have g3 := qb_lg_hi (m := m) (by omega)
  intro d
  induction d with
  | zero =>
    intro k hk
    have hk' : k = qb_lg m := by omega
    have h1 := qb_pow_le (k := k + 1) (by omega)
    rw [← hk'] at g3 hp hT
    refine br_t ?_ ⟨k + 2, qb_w43 hU hm k T (by omega) hT hp⟩
    rw [show (10 : Int64) = lN 10 from rfl, lN_mul, ← qb_pow_s, pk_lLT (by omega) (by omega)]
    exact g3
  | succ d ih =>
    intro k hk
    have h1 := qb_pow_le (k := k + 1) (by omega)
    have h2 : 10 ^ (k + 1) ≤ 10 ^ qb_lg m := Nat.pow_le_pow_right (by omega) (by omega)
    refine br_f ?_ (nm_r (e' := lN (10 ^ (k + 1))) ?_ (ih (k + 1) (by omega)))
    · rw [show (10 : Int64) = lN 10 from rfl, lN_mul, ← qb_pow_s, pk_lLT (by omega) (by omega)]
      omega
    · rw [show (10 : Int64) = lN 10 from rfl, lN_mul, ← qb_pow_s]
theorem qb_num (hU : qb_HB N (fun a10 T => (hn, hf, ln, ll, rv, sl T, ap T, wl T, ts, fr, fs, iu, a1, a2, a3, a4, a5, a6, a7 T, a8, a9 T, a10, a11, a12, a13, a14, a15))) {z : Int32} {T : List Int32} (hT : T.length + 11 ≤ N) (hp : post (hn, hf, ln, ll, rv, sl (T ++ qb_nm z), ap (T ++ qb_nm z), wl (T ++ qb_nm z), ts, fr, fs, iu, a1, a2, a3, a4, a5, a6, a7 (T ++ qb_nm z), a8, a9 (T ++ qb_nm z), a10, a11, a12, a13, a14, a15)) : wpX_bringNumber post (hn, hf, ln, ll, rv, sl T, ap T, wl T, ts, fr, fs, iu, a1, a2, a3, a4, a5, a6, a7 T, a8, a9 T, a10, a11, a12, a13, a14, a15) z := by
  unfold wpX_bringNumber
  dsimp only
  rcases qb_nm_c z with ⟨m, h1, h2, h3, h4⟩ | ⟨m, h1, h2, h3, h4⟩
  · have g1 := qb_lg_le m
    rw [h4] at hp
    refine br_t h2 ?_
    rw [h3]
    exact ⟨qb_lg m + 1, qb_w21 hU h1 (by omega) hp (qb_lg m) 0 (by omega)⟩
  · have g1 := qb_lg_le m
    rw [h4] at hp
    refine br_f h2 ((hU a10 T (by omega)).1 _ _ ?_)
    dsimp only
    rw [h3]
    refine nm_e ⟨qb_lg m + 1, qb_w21 hU h1 (by rw [qb_l1]; omega) ?_ (qb_lg m) 0 (by omega)⟩
    rw [List.append_assoc]
    exact hp
theorem qb_wval (hU : qb_HB N (fun a10 T => (hn, hf, ln, ll, rv, sl T, ap T, wl T, ts, fr, fs, iu, a1, a2, a3, a4, a5, a6, a7 T, a8, a9 T, a10, a11, a12, a13, a14, a15))) {q : Nat} {T : List Int32} (hT : T.length + 12 ≤ N) (hq : q < 54) (hk : a4 q = 0 ∨ a4 q = 2) (hp : post (hn, hf, ln, ll, rv, sl (T ++ ((if a4 q = 2 then 64 else 35) :: qb_nm (a3 q))), ap (T ++ ((if a4 q = 2 then 64 else 35) :: qb_nm (a3 q))), wl (T ++ ((if a4 q = 2 then 64 else 35) :: qb_nm (a3 q))), ts, fr, fs, iu, a1, a2, a3, a4, a5, a6, a7 (T ++ ((if a4 q = 2 then 64 else 35) :: qb_nm (a3 q))), a8, a9 (T ++ ((if a4 q = 2 then 64 else 35) :: qb_nm (a3 q))), a10, a11, a12, a13, a14, a15)) : wpX_bringValue post (hn, hf, ln, ll, rv, sl T, ap T, wl T, ts, fr, fs, iu, a1, a2, a3, a4, a5, a6, a7 T, a8, a9 T, a10, a11, a12, a13, a14, a15) (nI q) := by
  have G : ∀ z : Int32, post (hn, hf, ln, ll, rv, sl (T ++ (z :: qb_nm (a3 q))), ap (T ++ (z :: qb_nm (a3 q))), wl (T ++ (z :: qb_nm (a3 q))), ts, fr, fs, iu, a1, a2, a3, a4, a5, a6, a7 (T ++ (z :: qb_nm (a3 q))), a8, a9 (T ++ (z :: qb_nm (a3 q))), a10, a11, a12, a13, a14, a15) → wX_bringValue_82 post (nI q) z hn hf ln ll rv (sl T) (ap T) (wl T) ts fr fs iu a1 a2 a3 a4 a5 a6 (a7 T) a8 (a9 T) a10 a11 a12 a13 a14 a15 := by
    intro z hz
    unfold wX_bringValue_82
    refine (hU a10 T (by omega)).1 _ _ ?_
    dsimp only
    refine ⟨vp_in_nI hq (by omega), ?_⟩
    rw [nI_clamp (by omega)]
    refine qb_num hU (by rw [qb_l1]; omega) ?_
    dsimp only
    rw [List.append_assoc]
    exact hz
  unfold wpX_bringValue
  dsimp only
  rw [nI_clamp (by omega)]
  refine ⟨vp_in_nI hq (by omega), ?_⟩
  rcases hk with hk | hk
  · rw [hk] at hp ⊢
    refine br_f (by decide) ⟨vp_in_nI hq (by omega), br_f (by decide) ⟨vp_in_nI hq (by omega), br_f (by decide) (G _ ?_)⟩⟩
    rw [if_neg (by decide)] at hp
    exact hp
  · rw [hk] at hp ⊢
    refine br_f (by decide) ⟨vp_in_nI hq (by omega), br_t rfl (G _ ?_)⟩
    rw [if_pos rfl] at hp
    exact hp
/-- an object's text -/
def qb_ot (K : Int32) (n : Nat) (v k : Int32) : List Int32 :=
  (48 + K) :: ((if n = 0 then [] else (if k = 2 then 64 else 35) :: (qb_nm v ++ [44])) ++ [41])
theorem qb_ot_len (K : Int32) (n : Nat) (v k : Int32) : (qb_ot K n v k).length ≤ 15 := by
  have := qb_nm_len v
  unfold qb_ot
  split
  · simp
  · simp
    omega
/-- what an object may be -/
def qb_ok (K : Int32) (n : Nat) (k : Int32) : Prop := (K = 0 ∨ K = 1 ∨ K = 2 ∨ K = 3 ∨ K = 4 ∨ K = 5) ∧ (n = 0 ∨ n = 1 ∧ (K = 1 ∧ k = 0 ∨ K = 5 ∧ k = 2))
theorem qb_wobj (hU : qb_HB N (fun a10 T => (hn, hf, ln, ll, rv, sl T, ap T, wl T, ts, fr, fs, iu, a1, a2, a3, a4, a5, a6, a7 T, a8, a9 T, a10, a11, a12, a13, a14, a15))) {j n : Nat} {K v k : Int32} {T : List Int32} (hT : T.length + 16 ≤ N) (hj : j < 9) (h1 : a1 j = K) (h2 : a2 j = nI n) (h3 : n = 1 → a3 (6 * j) = v ∧ a4 (6 * j) = k) (hok : qb_ok K n k) (hp : post (hn, hf, ln, ll, rv, sl (T ++ qb_ot K n v k), ap (T ++ qb_ot K n v k), wl (T ++ qb_ot K n v k), ts, fr, fs, iu, a1, a2, a3, a4, a5, a6, a7 (T ++ qb_ot K n v k), a8, a9 (T ++ qb_ot K n v k), a10, a11, a12, a13, a14, a15)) : wpX_bringObject post (hn, hf, ln, ll, rv, sl T, ap T, wl T, ts, fr, fs, iu, a1, a2, a3, a4, a5, a6, a7 T, a8, a9 T, a10, a11, a12, a13, a14, a15) (nI j) := by
  unfold wpX_bringObject
  dsimp only
  rw [nI_clamp (by omega)]
  refine ⟨vp_in_nI hj (by omega), (hU a10 T (by omega)).1 _ _ ?_⟩
  dsimp only
  rcases hok.2 with hn | ⟨hn, hk⟩
  · refine ⟨1, vp_in_nI hj (by omega), ?_⟩
    rw [nI_clamp (by omega), h2, h1, hn]
    refine br_t (by decide) ((hU a10 _ (by rw [qb_l1]; omega)).1 _ _ ?_)
    dsimp only
    rw [hn] at hp
    rw [List.append_assoc]
    exact hp
  · obtain ⟨hv, hk'⟩ := h3 hn
    have hK2 : ¬ K = 2 ∧ ¬ K = 4 := by
      rcases hk with ⟨e, _⟩ | ⟨e, _⟩ <;> rw [e] <;> decide
    have hK3 : a4 (6 * j) = 0 ∨ a4 (6 * j) = 2 := by
      rw [hk']
      rcases hk with ⟨_, e⟩ | ⟨_, e⟩
      · exact Or.inl e
      · exact Or.inr e
    refine ⟨2, vp_in_nI hj (by omega), ?_⟩
    rw [nI_clamp (by omega), h2, hn]
    refine br_f (by decide) ⟨vp_in_nI hj (by omega), br_f (by rw [h1]; exact hK2.2) ?_⟩
    unfold wX_bringObject_56
    dsimp only
    rw [show 6 * nI j + 0 = nI (6 * j) by rw [show (6 : Int32) = nI 6 from rfl, pk_mul, show (0 : Int32) = nI 0 from rfl, nI_add, Nat.add_zero]]
    refine qb_wval hU (by rw [qb_l1]; omega) (by omega) hK3 ?_
    dsimp only
    have e2 := qb_nm_len v
    refine ⟨vp_in_nI hj (by omega), ?_⟩
    rw [nI_clamp (by omega), h1, hv, hk']
    refine br_f hK2.1 ((hU a10 _ (by simp; omega)).1 _ _ ?_)
    dsimp only
    refine nm_r (e' := 1) (by decide) ⟨vp_in_nI hj (by omega), ?_⟩
    rw [nI_clamp (by omega), h2, hn]
    refine br_t (by decide) ((hU a10 _ (by simp; omega)).1 _ _ ?_)
    dsimp only
    have e : (((T ++ [48 + K]) ++ ((if k = 2 then 64 else 35) :: qb_nm v)) ++ [44]) ++ [41] = T ++ qb_ot K n v k := by
      unfold qb_ot
      rw [hn, if_neg (show ¬ (1 : Nat) = 0 by omega)]
      simp
    rw [e]
    exact hp
end
end
section
section
variable {hn hf ln ll rv ts fr fs iu : Int32} {sl ap wl : List Int32 → Int32} {a1 a2 a3 a4 a5 a6 a8 a10 a11 a12 a13 a14 a15 : Nat → Int32} {a7 a9 : List Int32 → Nat → Int32} {N : Nat} {post : St2 → Prop}
/-- the objects: j alone may be there, with kind K, n values, the first v of kind k -/
def qb_ob (j : Nat) (K : Int32) (n : Nat) (v k : Int32) (a1 a2 a3 a4 : Nat → Int32) : Prop :=
  (∀ i, 1 ≤ i → i ≤ 8 → a1 i = if i = j then K else 0) ∧ (∀ i, 1 ≤ i → i ≤ 8 → a2 i = if i = j then nI n else 0) ∧ (n = 1 → a3 (6 * j) = v ∧ a4 (6 * j) = k)
/-- what of it is written -/
def qb_ox (K : Int32) (n : Nat) (v k : Int32) : List Int32 := if K = 0 then [] else qb_ot K n v k
theorem qb_ox_len (K : Int32) (n : Nat) (v k : Int32) : (qb_ox K n v k).length ≤ 15 := by
  unfold qb_ox
  split
  · simp
  · exact qb_ot_len K n v k
/-- the places of the objects below i -/
def qb_pl (j : Nat) (K : Int32) (i : Nat) (a10 : Nat → Int32) : Prop := ∀ x, 1 ≤ x → x < i → a10 x = if x = j ∧ ¬ K = 0 then 0 else -1
theorem qb_pl_u {j i : Nat} {K y : Int32} {f : Nat → Int32} (h : qb_pl j K i f) (hy : y = if i = j ∧ ¬ K = 0 then 0 else -1) : qb_pl j K (i + 1) (upd f i y) := by
  intro x h1 h2
  by_cases e : x = i
  · rw [e, pk_us, hy]
  · rw [pk_un e]
    exact h x h1 (by omega)
theorem qb_pl_v {j i : Nat} {K w y : Int32} {f : Nat → Int32} (h : qb_pl j K i f) (hy : y = if i = j ∧ ¬ K = 0 then 0 else -1) : qb_pl j K (i + 1) (upd (upd f i w) i y) := by
  intro x h1 h2
  by_cases e : x = i
  · rw [e, pk_us, hy]
  · rw [pk_un e, pk_un e]
    exact h x h1 (by omega)
theorem qb_wobs (hU : qb_HB N (fun a10 T => (hn, hf, ln, ll, rv, sl T, ap T, wl T, ts, fr, fs, iu, a1, a2, a3, a4, a5, a6, a7 T, a8, a9 T, a10, a11, a12, a13, a14, a15))) (hN : 20 ≤ N) {j n : Nat} {K v k x1 : Int32} (hj1 : 1 ≤ j) (hj : j ≤ 8) (ho : qb_ob j K n v k a1 a2 a3 a4) (hok : qb_ok K n k) (ht : x1 = 0 → ∀ i, 1 ≤ i → i ≤ 8 → (a6 i = 0 ↔ ¬ (i = j ∧ ¬ K = 0)))
    (hp : ∀ b10, qb_pl j K 9 b10 → post (hn, hf, ln, ll, rv, sl (qb_ox K n v k), ap (qb_ox K n v k), wl (qb_ox K n v k), ts, fr, fs, iu, a1, a2, a3, a4, a5, a6, a7 (qb_ox K n v k), a8, a9 (qb_ox K n v k), b10, a11, a12, a13, a14, a15)) : wpX_bringObjects post (hn, hf, ln, ll, rv, sl ([]), ap ([]), wl ([]), ts, fr, fs, iu, a1, a2, a3, a4, a5, a6, a7 ([]), a8, a9 ([]), a10, a11, a12, a13, a14, a15) x1 := by
  obtain ⟨o1, o2, o3⟩ := ho
  have hl := qb_ox_len K n v k
  unfold wpX_bringObjects
  dsimp only
  refine pk_loop (fun n i (s : List Int32 × (Nat → Int32)) => wX_bringObjects_2 post x1 n (nI i) hn hf ln ll rv (sl s.1) (ap s.1) (wl s.1) ts fr fs iu a1 a2 a3 a4 a5 a6 (a7 s.1) a8 (a9 s.1) s.2 a11 a12 a13 a14 a15) (fun i s => 1 ≤ i ∧ s.1 = (if j < i then qb_ox K n v k else []) ∧ qb_pl j K i s.2) 9 1 ([], a10) (by omega) ?_ ?_ ?_
  · refine ⟨by omega, ?_, fun x h1 h2 => absurd h2 (by omega)⟩
    rw [if_neg (by omega)]
  · rintro f ⟨T, b10⟩ ⟨_, h2, h3⟩
    dsimp only at h2 h3 ⊢
    rw [if_pos (by omega)] at h2
    rw [h2]
    exact pk_lt 8 9 (fun _ => hp b10 h3) (fun z => absurd z (by omega))
  · rintro f i ⟨T, b10⟩ hi ⟨h1, h2, h3⟩ hw
    dsimp only at h2 h3 ⊢
    have e1 := o1 i h1 (by omega)
    have e2 := o2 i h1 (by omega)
    refine pk_lt 8 i (fun z => absurd z (by omega)) (fun _ => ⟨pk_in i 9 (by omega), ?_⟩)
    rw [nI_clamp (show i < 2 ^ 31 by omega)]
    refine nm_e ?_
    -- an object that isn't there
    have G0 : ¬ (i = j ∧ ¬ K = 0) → wX_bringObjects_2 post x1 f (nI (i + 1)) hn hf ln ll rv (sl T) (ap T) (wl T) ts fr fs iu a1 a2 a3 a4 a5 a6 (a7 T) a8 (a9 T) (upd b10 i (-1)) a11 a12 a13 a14 a15 := by
      intro hc
      refine hw (T, upd b10 i (-1)) ⟨by omega, ?_, qb_pl_u h3 (by rw [if_neg hc])⟩
      dsimp only
      rw [h2]
      by_cases hji : j < i
      · rw [if_pos hji, if_pos (by omega)]
      · rw [if_neg hji]
        by_cases hij : i = j
        · have hK : K = 0 := by
            by_cases q : K = 0
            · exact q
            · exact absurd ⟨hij, q⟩ hc
          rw [if_pos (by omega)]
          unfold qb_ox
          rw [if_pos hK]
        · rw [if_neg (by omega)]
    have G : (¬ a6 i = 0 ∨ ¬ x1 = 0) → wX_bringObjects_28 post (wX_bringObjects_2 post x1 f) x1 (nI i) hn hf ln ll rv (sl T) (ap T) (wl T) ts fr fs iu a1 a2 a3 a4 a5 a6 (a7 T) a8 (a9 T) (upd b10 i (-1)) a11 a12 a13 a14 a15 := by
      intro _
      unfold wX_bringObjects_28
      rw [nI_clamp (show i < 2 ^ 31 by omega)]
      refine ⟨pk_in i 9 (by omega), ?_⟩
      by_cases hc : i = j ∧ ¬ K = 0
      · obtain ⟨hij, hK⟩ := hc
        subst hij
        rw [if_pos rfl] at e1 e2
        rw [if_neg (by omega)] at h2
        subst h2
        refine br_f (by rw [e1]; exact hK) ((hU _ [] (by simp; omega)).2 _ ⟨pk_in i 9 (by omega), nm_e ?_⟩)
        refine qb_wobj hU (by simp; omega) (by omega) e1 e2 o3 hok ?_
        dsimp only
        refine nm_r (nI_1 i) (hw (_, _) ⟨by omega, ?_, qb_pl_v h3 ?_⟩)
        · dsimp only
          rw [if_pos (by omega)]
          unfold qb_ox
          rw [if_neg hK]
          rfl
        · rw [if_pos ⟨rfl, hK⟩]
          rfl
      · refine br_t ?_ (nm_r (nI_1 i) (G0 hc))
        rw [e1]
        by_cases hij : i = j
        · rw [if_pos hij]
          by_cases q : K = 0
          · exact q
          · exact absurd ⟨hij, q⟩ hc
        · rw [if_neg hij]
    refine br_c (fun hx => ⟨pk_in i 9 (by omega), br_c (fun h6 => nm_r (nI_1 i) (G0 ((ht hx i h1 (by omega)).mp h6))) (fun h6 => G (Or.inl h6))⟩) (fun hx => G (Or.inr hx))
/-- an entry of the list -/
def qb_en (j : Nat) (K mk : Int32) (i : Nat) : List Int32 := nI (48 + i) :: (if i = j ∧ ¬ K = 0 then [mk, nI 48, 44] else [45, 44])
/-- the entries up to i -/
def qb_es (x1 : Int32) (j : Nat) (K mk : Int32) : Nat → List Int32
  | 0 => []
  | i + 1 => qb_es x1 j K mk i ++ (if x1 = 0 ∧ ¬ (i + 1 = j ∧ ¬ K = 0) then [] else qb_en j K mk (i + 1))
theorem qb_en_len (j : Nat) (K mk : Int32) (i : Nat) : (qb_en j K mk i).length ≤ 4 := by
  unfold qb_en
  split <;> simp
theorem qb_es_len (x1 : Int32) (j : Nat) (K mk : Int32) : ∀ i, (qb_es x1 j K mk i).length ≤ 4 * i := by
  intro i
  induction i with
  | zero => simp [qb_es]
  | succ i ih =>
    have := qb_en_len j K mk (i + 1)
    unfold qb_es
    rw [List.length_append]
    split
    · simp; omega
    · omega
theorem qb_wlist (hU : qb_HB N (fun a10 T => (hn, hf, ln, ll, rv, sl T, ap T, wl T, ts, fr, fs, iu, a1, a2, a3, a4, a5, a6, a7 T, a8, a9 T, a10, a11, a12, a13, a14, a15))) {j : Nat} {K x1 x2 x3 mk : Int32} {T : List Int32} (hT : T.length + 64 ≤ N) (hj1 : 1 ≤ j) (hj : j ≤ 8) (h10 : qb_pl j K 9 a10) (hmk : mk = if x2 = 0 then 43 else 42) (ht : x1 = 0 → ∀ i, 1 ≤ i → i ≤ 8 → (a6 i = 0 ↔ ¬ (i = j ∧ ¬ K = 0)))
    (hp : post (hn, hf, ln, ll, rv, sl ((T ++ qb_es x1 j K mk 8) ++ (80 :: (qb_nm x3 ++ [46]))), ap ((T ++ qb_es x1 j K mk 8) ++ (80 :: (qb_nm x3 ++ [46]))), wl ((T ++ qb_es x1 j K mk 8) ++ (80 :: (qb_nm x3 ++ [46]))), ts, fr, fs, iu, a1, a2, a3, a4, a5, a6, a7 ((T ++ qb_es x1 j K mk 8) ++ (80 :: (qb_nm x3 ++ [46]))), a8, a9 ((T ++ qb_es x1 j K mk 8) ++ (80 :: (qb_nm x3 ++ [46]))), a10, a11, a12, a13, a14, a15)) : wpX_bringList post (hn, hf, ln, ll, rv, sl T, ap T, wl T, ts, fr, fs, iu, a1, a2, a3, a4, a5, a6, a7 T, a8, a9 T, a10, a11, a12, a13, a14, a15) x1 x2 x3 := by
  unfold wpX_bringList
  dsimp only
  refine pk_loop (fun n i (s : List Int32) => wX_bringList_3 post x1 x2 x3 n (nI i) hn hf ln ll rv (sl s) (ap s) (wl s) ts fr fs iu a1 a2 a3 a4 a5 a6 (a7 s) a8 (a9 s) a10 a11 a12 a13 a14 a15) (fun i s => 1 ≤ i ∧ s = T ++ qb_es x1 j K mk (i - 1)) 9 1 T (by omega) ?_ ?_ ?_
  · refine ⟨by omega, ?_⟩
    simp [qb_es]
  · rintro f s ⟨_, h2⟩
    subst h2
    have hl := qb_es_len x1 j K mk 8
    have hl3 := qb_nm_len x3
    rw [show 9 - 1 = 8 from rfl]
    refine pk_lt 8 9 (fun _ => ?_) (fun z => absurd z (by omega))
    refine (hU a10 _ (by simp; omega)).1 _ _ ?_
    dsimp only
    refine qb_num hU (by simp; omega) ?_
    dsimp only
    refine (hU a10 _ (by simp; omega)).1 _ _ ?_
    dsimp only
    rw [List.append_assoc, List.append_assoc (T ++ _)]
    exact hp
  · rintro f i s hi ⟨h1, h2⟩ hw
    have hl := qb_es_len x1 j K mk (i - 1)
    have hsl : s.length + 32 ≤ N := by
      rw [h2, List.length_append]
      omega
    have h10i := h10 i h1 (by omega)
    have hes : qb_es x1 j K mk i = qb_es x1 j K mk (i - 1) ++ (if x1 = 0 ∧ ¬ (i = j ∧ ¬ K = 0) then [] else qb_en j K mk i) := by
      obtain ⟨i', rfl⟩ : ∃ i', i = i' + 1 := ⟨i - 1, by omega⟩
      rfl
    refine pk_lt 8 i (fun z => absurd z (by omega)) (fun _ => ?_)
    have G78 : ∀ s', s' ++ [44] = s ++ qb_en j K mk i → s'.length < N → ¬ (x1 = 0 ∧ ¬ (i = j ∧ ¬ K = 0)) → wX_bringList_78 post (wX_bringList_3 post x1 x2 x3 f) x1 x2 x3 (nI i) hn hf ln ll rv (sl s') (ap s') (wl s') ts fr fs iu a1 a2 a3 a4 a5 a6 (a7 s') a8 (a9 s') a10 a11 a12 a13 a14 a15 := by
      intro s' hs' hl' hc
      unfold wX_bringList_78
      refine (hU a10 _ hl').1 _ _ ?_
      dsimp only
      refine nm_r (nI_1 i) (hw _ ⟨by omega, ?_⟩)
      rw [hs', h2, Nat.add_sub_cancel, hes, if_neg hc, List.append_assoc]
    have G : ¬ (x1 = 0 ∧ ¬ (i = j ∧ ¬ K = 0)) → wX_bringList_24 post (wX_bringList_3 post x1 x2 x3 f) x1 x2 x3 (nI i) hn hf ln ll rv (sl s) (ap s) (wl s) ts fr fs iu a1 a2 a3 a4 a5 a6 (a7 s) a8 (a9 s) a10 a11 a12 a13 a14 a15 := by
      intro hc
      unfold wX_bringList_24
      rw [show (48 : Int32) + nI i = nI (48 + i) by rw [show (48 : Int32) = nI 48 from rfl, nI_add]]
      refine (hU a10 _ (by omega)).1 _ _ ?_
      dsimp only
      rw [nI_clamp (show i < 2 ^ 31 by omega)]
      refine ⟨pk_in i 9 (by omega), ?_⟩
      by_cases hc2 : i = j ∧ ¬ K = 0
      · rw [if_pos hc2] at h10i
        rw [h10i]
        have G64 : ∀ z0, z0 = mk → wX_bringList_64 post (wX_bringList_3 post x1 x2 x3 f) x1 x2 x3 (nI i) z0 hn hf ln ll rv (sl (s ++ [nI (48 + i)])) (ap (s ++ [nI (48 + i)])) (wl (s ++ [nI (48 + i)])) ts fr fs iu a1 a2 a3 a4 a5 a6 (a7 (s ++ [nI (48 + i)])) a8 (a9 (s ++ [nI (48 + i)])) a10 a11 a12 a13 a14 a15 := by
          intro z0 hz0
          unfold wX_bringList_64
          refine (hU a10 _ (by simp; omega)).1 _ _ ?_
          dsimp only
          rw [nI_clamp (show i < 2 ^ 31 by omega), h10i]
          refine ⟨pk_in i 9 (by omega), qb_num hU (by simp; omega) ?_⟩
          dsimp only
          rw [qb_nm_0]
          refine G78 _ ?_ (by simp; omega) hc
          unfold qb_en
          rw [if_pos hc2, hz0]
          simp
        refine br_t (by decide) (br_c (fun hx => G64 43 (by rw [hmk, if_pos hx])) (fun hx => G64 42 (by rw [hmk, if_neg hx])))
      · rw [if_neg hc2] at h10i
        rw [h10i]
        refine br_f (by decide) ((hU a10 _ (by simp; omega)).1 _ _ ?_)
        dsimp only
        refine G78 _ ?_ (by simp; omega) hc
        unfold qb_en
        rw [if_neg hc2]
        simp
    rw [nI_clamp (show i < 2 ^ 31 by omega)]
    refine br_c (fun hx => ⟨pk_in i 9 (by omega), br_c (fun h6 => nm_r (nI_1 i) (hw _ ⟨by omega, ?_⟩)) (fun h6 => G (fun hc => h6 ((ht hx i h1 (by omega)).mpr hc.2)))⟩) (fun hx => G (fun hc => hx hc.1))
    rw [h2, Nat.add_sub_cancel, hes, if_pos ⟨hx, (ht hx i h1 (by omega)).mp h6⟩, List.append_nil]
end
end
section
section
variable {hn hf ln ll rv sl ap wl ts fr fs iu : Int32} {a1 a2 a3 a4 a5 a6 a7 a8 a9 a10 a11 a12 a13 a14 a15 : Nat → Int32} {post : St2 → Prop}
/-- the file as a writer -/
theorem qb_HBf {h W N : Nat} {A : Nat → Int32} (hh : h ≤ 1) (hW : W ≤ 3700) (hN : N ≤ 3700) : qb_HB N (fun a10 T => (hn, nI h, ln, ll, rv, sl, nI T.length, nI (W - T.length), 0, fr, fs, iu, a1, a2, a3, a4, a5, a6, qb_fw A h W T, a8, a9, a10, a11, a12, a13, a14, a15)) := by
  intro a10 T hT
  refine ⟨fun b post hp => ?_, fun post hp => br_t rfl hp⟩
  dsimp only at hp ⊢
  rw [qb_l1] at hp
  refine br_t rfl (pk_le (W - T.length) 0 (fun c => nm_r (nI_1 _) ?_) (fun c => ?_))
  · rw [qb_fw_ge (b := b) (by omega), show W - T.length = W - (T.length + 1) by omega]
    exact hp
  · have e : 3700 * nI h + nI T.length = nI (3700 * h + T.length) := by
      rw [show (3700 : Int32) = nI 3700 from rfl, pk_mul, nI_add]
    rw [e, nI_clamp (by omega)]
    refine ⟨vp_in_nI (by omega) (by omega), nm_r (qb_fw_lt (by omega)) (nm_r (e' := nI (W - (T.length + 1))) ?_ (nm_r (nI_1 _) hp))⟩
    rw [show W - T.length = (W - (T.length + 1)) + 1 by omega]
    exact nI_pred _
/-- the scratch as a writer -/
theorem qb_HBs {N : Nat} {B : Nat → Int32} (hN : N ≤ 700) : qb_HB N (fun a10 T => (hn, hf, ln, ll, rv, nI T.length, ap, wl, 1, fr, fs, iu, a1, a2, a3, a4, a5, a6, a7, a8, qb_sw B T, a10, a11, a12, a13, a14, a15)) := by
  intro a10 T hT
  refine ⟨fun b post hp => ?_, fun post hp => br_f (by decide) hp⟩
  dsimp only at hp ⊢
  rw [qb_l1] at hp
  refine br_f (by decide) ⟨vp_in_nI (by omega) (by omega), ?_⟩
  rw [nI_clamp (by omega)]
  exact nm_r qb_sw_s (nm_r (nI_1 _) hp)
/-! runs -/
def qb_ex : List (Nat × Int32) → List Int32
  | [] => []
  | p :: E => List.replicate p.1 p.2 ++ qb_ex E
def qb_ec : List (Nat × Int32) → List Int32
  | [] => []
  | p :: E => nI p.1 :: p.2 :: qb_ec E
def qb_ev (E : List (Nat × Int32)) : Prop := ∀ p, p ∈ E → 1 ≤ p.1 ∧ p.1 ≤ 255
theorem qb_ex_s {p : Nat × Int32} : ∀ {E : List (Nat × Int32)}, qb_ex (E ++ [p]) = qb_ex E ++ List.replicate p.1 p.2 := by
  intro E
  induction E with
  | nil => simp [qb_ex]
  | cons q E ih => simp only [List.cons_append, qb_ex, ih, List.append_assoc]
theorem qb_ec_s {p : Nat × Int32} : ∀ {E : List (Nat × Int32)}, qb_ec (E ++ [p]) = qb_ec E ++ [nI p.1, p.2] := by
  intro E
  induction E with
  | nil => simp [qb_ec]
  | cons q E ih => simp only [List.cons_append, qb_ec, ih]
theorem qb_ev_s {p : Nat × Int32} {E : List (Nat × Int32)} (h : qb_ev E) (h1 : 1 ≤ p.1) (h2 : p.1 ≤ 255) : qb_ev (E ++ [p]) := by
  intro q hq
  rw [List.mem_append, List.mem_singleton] at hq
  rcases hq with hq | hq
  · exact h q hq
  · rw [hq]
    exact ⟨h1, h2⟩
theorem qb_ec_len : ∀ {E : List (Nat × Int32)}, qb_ev E → (qb_ec E).length ≤ 2 * (qb_ex E).length := by
  intro E
  induction E with
  | nil => simp [qb_ex, qb_ec]
  | cons q E ih =>
    intro h
    have h1 := (h q (List.mem_cons_self)).1
    have h2 := ih (fun p hp => h p (List.mem_cons_of_mem q hp))
    simp only [qb_ex, qb_ec, List.length_cons, List.length_append, List.length_replicate]
    omega
theorem qb_tx_rep {f : Nat → Int32} {b : Int32} : ∀ {n p : Nat}, (∀ q, q < n → f (p + q) = b) → qb_tx f p (List.replicate n b) := by
  intro n
  induction n with
  | zero => intro p _; trivial
  | succ n ih =>
    intro p h
    rw [List.replicate_succ]
    refine ⟨h 0 (by omega), ih (fun q hq => ?_)⟩
    rw [show p + 1 + q = p + (q + 1) by omega]
    exact h (q + 1) (by omega)
theorem qb_tx_inj {f : Nat → Int32} : ∀ {L M : List Int32} {p : Nat}, qb_tx f p L → qb_tx f p M → L.length = M.length → L = M := by
  intro L
  induction L with
  | nil =>
    intro M p _ _ hl
    exact (List.length_eq_zero_iff.mp hl.symm).symm
  | cons b L ih =>
    intro M p h1 h2 hl
    match M, h2, hl with
    | c :: M, h2, hl =>
      rw [← h1.1, ← h2.1, ih h1.2 h2.2 (by simpa using hl)]
theorem qb_ec_by : ∀ {E : List (Nat × Int32)}, qb_ev E → (∀ b, b ∈ qb_ex E → qb_by b) → ∀ b, b ∈ qb_ec E → qb_by b := by
  intro E
  induction E with
  | nil =>
    intro _ _ b hb
    simp [qb_ec] at hb
  | cons q E ih =>
    intro h hx b hb
    have h1 := h q (List.mem_cons_self)
    simp only [qb_ec, List.mem_cons] at hb
    rcases hb with hb | hb | hb
    · rw [hb]
      exact qb_by_n (by omega)
    · rw [hb]
      refine hx q.2 ?_
      simp only [qb_ex, List.mem_append, List.mem_replicate]
      exact Or.inl ⟨by omega, trivial⟩
    · exact ih (fun p hp => h p (List.mem_cons_of_mem q hp)) (fun c hc => hx c (by simp only [qb_ex, List.mem_append]; exact Or.inr hc)) b hb
theorem qb_wruns {h W : Nat} {A : Nat → Int32} {X T : List Int32} (hh : h ≤ 1) (hW : W ≤ 3700) (hX : X.length ≤ 100) (hT : T.length ≤ 100) (hx9 : qb_tx a9 0 X)
    (hp : ∀ E, qb_ev E → qb_ex E = X → post (hn, nI h, ln, ll, rv, nI X.length, nI (T ++ (qb_nm (nI X.length) ++ (58 :: qb_ec E))).length, nI (W - (T ++ (qb_nm (nI X.length) ++ (58 :: qb_ec E))).length), 0, fr, fs, iu, a1, a2, a3, a4, a5, a6, qb_fw A h W (T ++ (qb_nm (nI X.length) ++ (58 :: qb_ec E))), a8, a9, a10, a11, a12, a13, a14, a15)) :
    wpX_bringRuns post (hn, nI h, ln, ll, rv, nI X.length, nI T.length, nI (W - T.length), 0, fr, fs, iu, a1, a2, a3, a4, a5, a6, qb_fw A h W T, a8, a9, a10, a11, a12, a13, a14, a15) := by
  have hU := qb_HBf (N := 3700) (h := h) (W := W) (A := A) (hn := hn) (ln := ln) (ll := ll) (rv := rv) (sl := nI X.length) (fr := fr) (fs := fs) (iu := iu) (a1 := a1) (a2 := a2) (a3 := a3) (a4 := a4) (a5 := a5) (a6 := a6) (a8 := a8) (a9 := a9) (a11 := a11) (a12 := a12) (a13 := a13) (a14 := a14) (a15 := a15) hh hW (Nat.le_refl _)
  have hlN := qb_nm_len (nI X.length)
  -- the loop over the runs
  have L16 : ∀ (f i : Nat) (E : List (Nat × Int32)), X.length - i < f → i ≤ X.length → qb_ev E → qb_tx a9 0 (qb_ex E) → (qb_ex E).length = i → wX_bringRuns_16 post f (nI i) hn (nI h) ln ll rv (nI X.length) (nI (T ++ (qb_nm (nI X.length) ++ (58 :: qb_ec E))).length) (nI (W - (T ++ (qb_nm (nI X.length) ++ (58 :: qb_ec E))).length)) 0 fr fs iu a1 a2 a3 a4 a5 a6 (qb_fw A h W (T ++ (qb_nm (nI X.length) ++ (58 :: qb_ec E)))) a8 a9 a10 a11 a12 a13 a14 a15 := by
    intro f
    induction f with
    | zero => intro i E h1; omega
    | succ f ih =>
      intro i E h1 h2 h3 h4 h5
      have hel := qb_ec_len h3
      refine pk_le X.length i (fun z => hp E h3 (qb_tx_inj h4 hx9 (by omega))) (fun z => ?_)
      have L66 : ∀ n, 1 ≤ n → n ≤ 255 → i + n ≤ X.length → (∀ q, q < n → a9 (i + q) = a9 i) → wX_bringRuns_66 post (wX_bringRuns_16 post f) (nI i) (nI n) hn (nI h) ln ll rv (nI X.length) (nI (T ++ (qb_nm (nI X.length) ++ (58 :: qb_ec E))).length) (nI (W - (T ++ (qb_nm (nI X.length) ++ (58 :: qb_ec E))).length)) 0 fr fs iu a1 a2 a3 a4 a5 a6 (qb_fw A h W (T ++ (qb_nm (nI X.length) ++ (58 :: qb_ec E)))) a8 a9 a10 a11 a12 a13 a14 a15 := by
        intro n g1 g2 g3 g4
        unfold wX_bringRuns_66
        refine (hU a10 _ (by simp; omega)).1 _ _ ?_
        dsimp only
        refine ⟨pk_in i 700 (by omega), ?_⟩
        rw [nI_clamp (by omega)]
        refine (hU a10 _ (by simp; omega)).1 _ _ ?_
        dsimp only
        refine nm_r (nI_add i n) ?_
        have e : (T ++ (qb_nm (nI X.length) ++ (58 :: qb_ec E))) ++ [nI n] ++ [a9 i] = T ++ (qb_nm (nI X.length) ++ (58 :: qb_ec (E ++ [(n, a9 i)]))) := by
          rw [qb_ec_s]
          simp
        rw [e]
        refine ih (i + n) (E ++ [(n, a9 i)]) (by omega) g3 (qb_ev_s h3 g1 g2) ?_ ?_
        · rw [qb_ex_s, qb_tx_app, h5, Nat.zero_add]
          exact ⟨h4, qb_tx_rep g4⟩
        · rw [qb_ex_s, List.length_append, List.length_replicate, h5]
      have L26 : ∀ (g n : Nat), 255 - n < g → 1 ≤ n → n ≤ 255 → i + n ≤ X.length → (∀ q, q < n → a9 (i + q) = a9 i) → wX_bringRuns_26 post (wX_bringRuns_16 post f) (nI i) hn (nI h) ln ll rv (nI X.length) (nI (T ++ (qb_nm (nI X.length) ++ (58 :: qb_ec E))).length) (nI (W - (T ++ (qb_nm (nI X.length) ++ (58 :: qb_ec E))).length)) 0 fr fs iu a1 a2 a3 a4 a5 a6 (qb_fw A h W (T ++ (qb_nm (nI X.length) ++ (58 :: qb_ec E)))) a8 a9 a10 a11 a12 a13 a14 a15 g (nI n) := by
        intro g
        induction g with
        | zero => intro n q1; omega
        | succ g ih2 =>
          intro n q1 q2 q3 q4 q5
          refine pk_le 255 n (fun _ => L66 n q2 q3 q4 q5) (fun c => ?_)
          rw [nI_add]
          refine pk_le X.length (i + n) (fun _ => L66 n q2 q3 q4 q5) (fun c2 => ⟨vp_in_nI (by omega) (by omega), pk_in i 700 (by omega), ?_⟩)
          rw [nI_clamp (show i + n < 2 ^ 31 by omega), nI_clamp (show i < 2 ^ 31 by omega)]
          refine br_c (fun e => nm_r (nI_1 n) (ih2 (n + 1) (by omega) (by omega) (by omega) (by omega) (fun q hq => ?_))) (fun _ => L66 n q2 q3 q4 q5)
          by_cases hqn : q = n
          · rw [hqn]
            exact e
          · exact q5 q (by omega)
      exact ⟨256, L26 256 1 (by omega) (by omega) (by omega) (by omega) (fun q hq => by rw [show q = 0 by omega, Nat.add_zero])⟩
  unfold wpX_bringRuns
  dsimp only
  refine qb_num hU (by omega) ?_
  dsimp only
  refine (hU a10 _ (by simp; omega)).1 _ _ ?_
  dsimp only
  rw [List.append_assoc]
  exact ⟨X.length + 1, L16 (X.length + 1) 0 [] (by omega) (by omega) (fun p hp => absurd hp (by simp)) trivial rfl⟩
end
end
section
section
variable {hn hf ln ll rv sl ap wl ts fr fs iu : Int32} {a1 a2 a3 a4 a5 a6 a7 a8 a9 a10 a11 a12 a13 a14 a15 : Nat → Int32}
/-- whether all objects are written -/
def qb_al : Nat → Int32
  | 0 => 0
  | _ + 1 => 1
/-- the mark of a place -/
def qb_mk : Nat → Int32
  | 2 => 42
  | _ => 43
/-- whether objects are packed -/
def qb_pk : Nat → Int32
  | 2 => 1
  | _ => 0
/-- what stands ahead of the list: the objects X, packed if the way is 2 -/
def qb_PR (w : Nat) (X PRE : List Int32) : Prop := (¬ w = 2 ∧ PRE = X) ∨ (w = 2 ∧ ∃ E, qb_ev E ∧ qb_ex E = X ∧ PRE = qb_nm (nI X.length) ++ (58 :: qb_ec E))
/-- a revision's whole text -/
def qb_TX (w j : Nat) (K : Int32) (PRE : List Int32) : List Int32 := (PRE ++ qb_es (qb_al w) j K (qb_mk w) 8) ++ (80 :: (qb_nm (-1) ++ [46]))
theorem qb_PR_len {w : Nat} {X PRE : List Int32} (h : qb_PR w X PRE) (hX : X.length ≤ 15) : PRE.length ≤ 50 := by
  rcases h with ⟨_, e⟩ | ⟨_, E, h1, h2, e⟩
  · rw [e]
    omega
  · have g1 := qb_nm_len (nI X.length)
    have g2 := qb_ec_len h1
    rw [h2] at g2
    rw [e, List.length_append, List.length_cons]
    omega
theorem qb_TX_len {w j : Nat} {K : Int32} {PRE : List Int32} (h : PRE.length ≤ 50) : (qb_TX w j K PRE).length ≤ 100 := by
  have g := qb_es_len (qb_al w) j K (qb_mk w) 8
  unfold qb_TX
  rw [qb_nm_m1]
  simp
  omega
theorem qb_rev92 {post : Int32 → St2 → Prop} {h W w j : Nat} {A : Nat → Int32} {K : Int32} {PRE : List Int32} (hh : h ≤ 1) (hW : W ≤ 3700) (hw : w ≤ 2) (hP : PRE.length ≤ 50) (hj1 : 1 ≤ j) (hj : j ≤ 8) (h10 : qb_pl j K 9 a10) (hll : w = 0 → ll = -1) (ht : w = 0 → ∀ i, 1 ≤ i → i ≤ 8 → (a6 i = 0 ↔ ¬ (i = j ∧ ¬ K = 0)))
    (hp : post (nI PRE.length) (hn, nI h, ln, ll, rv, sl, nI (qb_TX w j K PRE).length, nI (W - (qb_TX w j K PRE).length), 0, fr, fs, iu, a1, a2, a3, a4, a5, a6, qb_fw A h W (qb_TX w j K PRE), a8, a9, a10, a11, a12, a13, a14, a15)) : wX_writeRevision_92 post (nI w) (qb_al w) hn (nI h) ln ll rv sl (nI PRE.length) (nI (W - PRE.length)) 0 fr fs iu a1 a2 a3 a4 a5 a6 (qb_fw A h W PRE) a8 a9 a10 a11 a12 a13 a14 a15 := by
  have hU := qb_HBf (N := 3700) (h := h) (W := W) (A := A) (hn := hn) (ln := ln) (ll := ll) (rv := rv) (sl := sl) (fr := fr) (fs := fs) (iu := iu) (a1 := a1) (a2 := a2) (a3 := a3) (a4 := a4) (a5 := a5) (a6 := a6) (a8 := a8) (a9 := a9) (a11 := a11) (a12 := a12) (a13 := a13) (a14 := a14) (a15 := a15) hh hW (Nat.le_refl _)
  have C : w = 0 ∨ w = 1 ∨ w = 2 := by omega
  have L122 : ∀ x3, x3 = -1 → wX_writeRevision_122 post (nI PRE.length) x3 (qb_pk w) (qb_al w) hn (nI h) ln ll rv sl (nI PRE.length) (nI (W - PRE.length)) 0 fr fs iu a1 a2 a3 a4 a5 a6 (qb_fw A h W PRE) a8 a9 a10 a11 a12 a13 a14 a15 := by
    intro x3 e
    unfold wX_writeRevision_122
    refine qb_wlist hU (j := j) (K := K) (mk := qb_mk w) (by omega) hj1 hj h10 ?_ ?_ ?_
    · rcases C with e | e | e <;> rw [e] <;> rfl
    · intro e
      refine ht ?_
      rcases C with e' | e' | e'
      · exact e'
      · rw [e'] at e
        exact absurd e (by decide)
      · rw [e'] at e
        exact absurd e (by decide)
    · dsimp only
      rw [e]
      exact hp
  have L110 : ∀ x, x = qb_pk w → wX_writeRevision_110 post (qb_al w) (nI PRE.length) x (qb_al w) hn (nI h) ln ll rv sl (nI PRE.length) (nI (W - PRE.length)) 0 fr fs iu a1 a2 a3 a4 a5 a6 (qb_fw A h W PRE) a8 a9 a10 a11 a12 a13 a14 a15 := by
    intro x e
    rw [e]
    unfold wX_writeRevision_110
    refine br_c (fun c => L122 ll (hll ?_)) (fun c => L122 (-1) rfl)
    rcases C with e' | e' | e'
    · exact e'
    · rw [e'] at c
      exact absurd c (by decide)
    · rw [e'] at c
      exact absurd c (by decide)
  unfold wX_writeRevision_92
  refine pk_eq w 2 (fun c => L110 1 (by rw [c]; rfl)) (fun c => L110 0 ?_)
  rcases C with e | e | e
  · rw [e]
    rfl
  · rw [e]
    rfl
  · exact absurd e c
theorem qb_rev {post : Int32 → St2 → Prop} {h0 h W w j n : Nat} {A : Nat → Int32} {K v k : Int32} (hh0 : h0 ≤ 1) (hh : h = if w = 0 then h0 else 1 - h0) (hW : W ≤ 3700) (hw : w ≤ 2) (hj1 : 1 ≤ j) (hj : j ≤ 8) (ho : qb_ob j K n v k a1 a2 a3 a4) (hok : qb_ok K n k) (hll : w = 0 → ll = -1 ∧ ln = 0) (ht : w = 0 → ∀ i, 1 ≤ i → i ≤ 8 → (a6 i = 0 ↔ ¬ (i = j ∧ ¬ K = 0)))
    (hp : ∀ PRE sl b9 b10, qb_PR w (qb_ox K n v k) PRE → post (nI PRE.length) (hn, nI h, ln, ll, rv, sl, nI (qb_TX w j K PRE).length, nI (W - (qb_TX w j K PRE).length), 0, fr, fs, 0, a1, a2, a3, a4, a5, a6, qb_fw A h W (qb_TX w j K PRE), a8, b9, b10, a11, a12, a13, a14, a15)) : wpX_writeRevision post (hn, nI h0, ln, ll, rv, sl, ap, wl, ts, fr, fs, iu, a1, a2, a3, a4, a5, a6, A, a8, a9, a10, a11, a12, a13, a14, a15) (nI w) (nI W) := by
  have hl := qb_ox_len K n v k
  have C : w = 0 ∨ w = 1 ∨ w = 2 := by omega
  have hh1 : h ≤ 1 := by
    rw [hh]
    split <;> omega
  have L55 : wX_writeRevision_55 post (nI w) (qb_al w) hn (nI h) ln ll rv sl 0 (nI W) 0 fr fs 0 a1 a2 a3 a4 a5 a6 A a8 a9 a10 a11 a12 a13 a14 a15 := by
    rw [← qb_fw_nil A h W]
    unfold wX_writeRevision_55
    refine pk_eq w 2 (fun c => ?_) (fun c => ?_)
    · rw [← qb_sw_nil a9]
      have hU := qb_HBs (N := 700) (B := a9) (hn := hn) (hf := nI h) (ln := ln) (ll := ll) (rv := rv) (ap := 0) (wl := nI W) (fr := fr) (fs := fs) (iu := 0) (a1 := a1) (a2 := a2) (a3 := a3) (a4 := a4) (a5 := a5) (a6 := a6) (a7 := qb_fw A h W []) (a8 := a8) (a11 := a11) (a12 := a12) (a13 := a13) (a14 := a14) (a15 := a15) (Nat.le_refl _)
      refine qb_wobs hU (by omega) hj1 hj ho hok (fun e => absurd e (by decide)) (fun b10 hb10 => ?_)
      dsimp only
      refine qb_wruns (T := []) hh1 hW (by omega) (by simp) qb_sw_tx (fun E hE hX => ?_)
      dsimp only
      rw [List.nil_append]
      exact qb_rev92 hh1 hW hw (qb_PR_len (w := 2) (Or.inr ⟨rfl, E, hE, hX, rfl⟩) hl) hj1 hj hb10 (fun e => (hll e).1) ht (hp _ _ _ _ (Or.inr ⟨c, E, hE, hX, rfl⟩))
    · have hU := qb_HBf (N := 3700) (h := h) (W := W) (A := A) (hn := hn) (ln := ln) (ll := ll) (rv := rv) (sl := sl) (fr := fr) (fs := fs) (iu := 0) (a1 := a1) (a2 := a2) (a3 := a3) (a4 := a4) (a5 := a5) (a6 := a6) (a8 := a8) (a9 := a9) (a11 := a11) (a12 := a12) (a13 := a13) (a14 := a14) (a15 := a15) hh1 hW (Nat.le_refl _)
      refine qb_wobs hU (by omega) hj1 hj ho hok ?_ (fun b10 hb10 => ?_)
      · intro e
        refine ht ?_
        rcases C with e' | e' | e'
        · exact e'
        · rw [e'] at e
          exact absurd e (by decide)
        · exact absurd e' c
      · dsimp only
        exact qb_rev92 hh1 hW hw (by omega) hj1 hj hb10 (fun e => (hll e).1) ht (hp _ _ _ _ (Or.inl ⟨c, rfl⟩))
  unfold wpX_writeRevision
  dsimp only
  refine pk_eq w 0 (fun c => ?_) (fun c => ?_)
  · rw [if_pos c] at hh
    rw [c, hh, (hll c).1, (hll c).2] at L55
    refine br_t rfl ?_
    rw [(hll c).1, (hll c).2, c]
    exact L55
  · rw [if_neg c] at hh
    refine br_f (by decide) (nm_r (e' := nI h) ?_ ?_)
    · rw [show (1 : Int32) = nI 1 from rfl, pk_sub (by omega), hh]
    · have e : qb_al w = 1 := by
        rcases C with e' | e' | e'
        · exact absurd e' c
        · rw [e']
          rfl
        · rw [e']
          rfl
      rw [e] at L55
      exact L55
end
end
section
section
variable {hn hf ln ll rv sl ap wl ts fr fs iu : Int32} {a1 a2 a3 a4 a5 a6 a7 a8 a9 a10 a11 a12 a13 a14 a15 : Nat → Int32} {N : Nat} {f : Nat → Int32} {post : Int32 → St2 → Prop}
theorem qb_bec {j : Nat} {x : Int32} (hj : j < 9) (hp : post (a1 j) (hn, hf, ln, ll, rv, sl, ap, wl, ts, fr, fs, iu, upd a1 j x, upd a2 j 0, a3, a4, a5, upd a6 j 1, a7, a8, a9, a10, a11, a12, a13, a14, a15)) : wpX_become post (hn, hf, ln, ll, rv, sl, ap, wl, ts, fr, fs, iu, a1, a2, a3, a4, a5, a6, a7, a8, a9, a10, a11, a12, a13, a14, a15) (nI j) x := by
  unfold wpX_become
  dsimp only
  rw [nI_clamp (by omega)]
  exact ⟨vp_in_nI hj (by omega), nm_e ⟨vp_in_nI hj (by omega), nm_e ⟨vp_in_nI hj (by omega), nm_e ⟨vp_in_nI hj (by omega), nm_e hp⟩⟩⟩⟩
theorem qb_i6 (j s : Nat) : 6 * nI j + nI s = nI (6 * j + s) := by
  rw [show (6 : Int32) = nI 6 from rfl, pk_mul, nI_add]
theorem qb_addv {j s : Nat} {x y : Int32} (hj : j < 9) (h2 : a2 j = nI s) (hs : 6 * j + s < 54) (hp : post (nI (s + 1)) (hn, hf, ln, ll, rv, sl, ap, wl, ts, fr, fs, iu, a1, upd a2 j (nI (s + 1)), upd a3 (6 * j + s) y, upd a4 (6 * j + s) x, upd a5 (6 * j + s) 0, upd a6 j 1, a7, a8, a9, a10, a11, a12, a13, a14, a15)) : wpX_addValue post (hn, hf, ln, ll, rv, sl, ap, wl, ts, fr, fs, iu, a1, a2, a3, a4, a5, a6, a7, a8, a9, a10, a11, a12, a13, a14, a15) (nI j) x y := by
  unfold wpX_addValue
  dsimp only
  rw [nI_clamp (by omega), h2, nI_1]
  refine ⟨vp_in_nI hj (by omega), nm_r (qb_i6 j s) ?_⟩
  rw [nI_clamp (by omega)]
  refine ⟨vp_in_nI hs (by omega), nm_e ⟨vp_in_nI hs (by omega), nm_e ⟨vp_in_nI hs (by omega), nm_e ⟨vp_in_nI hj (by omega), vp_in_nI hj (by omega), nm_e ⟨vp_in_nI hj (by omega), nm_e ⟨vp_in_nI hj (by omega), ?_⟩⟩⟩⟩⟩⟩
  rw [pk_us]
  exact hp
/-- a reader of f -/
def qb_HR (N : Nat) (f : Nat → Int32) (U : (Nat → Int32) → (Nat → Int32) → (Nat → Int32) → (Nat → Int32) → (Nat → Int32) → (Nat → Int32) → Int32 → St2) : Prop :=
  ∀ (a1 a2 a3 a4 a5 a6 : Nat → Int32) (p : Nat), p < N → (∀ post : Int32 → Prop, post (f p) → wpX_peek post (U a1 a2 a3 a4 a5 a6 (nI p))) ∧ (∀ post : Int32 → St2 → Prop, post (f p) (U a1 a2 a3 a4 a5 a6 (nI (p + 1))) → wpX_take post (U a1 a2 a3 a4 a5 a6 (nI p)))
theorem qb_HRf {h : Nat} (hh : h ≤ 1) : qb_HR 3700 (qb_rf a7 h) (fun a1 a2 a3 a4 a5 a6 fr => (hn, nI h, ln, ll, rv, sl, ap, wl, ts, fr, 0, iu, a1, a2, a3, a4, a5, a6, a7, a8, a9, a10, a11, a12, a13, a14, a15)) := by
  intro a1 a2 a3 a4 a5 a6 p hp
  have e : 3700 * nI h + nI p = nI (3700 * h + p) := by
    rw [show (3700 : Int32) = nI 3700 from rfl, pk_mul, nI_add]
  refine ⟨fun post h => ?_, fun post h => ?_⟩
  · unfold wpX_peek
    dsimp only
    rw [e, nI_clamp (by omega)]
    exact br_t rfl ⟨vp_in_nI (by omega) (by omega), h⟩
  · unfold wpX_take
    dsimp only
    rw [e, nI_clamp (by omega)]
    refine br_t rfl ⟨vp_in_nI (by omega) (by omega), ?_⟩
    unfold wX_take_41
    exact nm_r (nI_1 p) h
theorem qb_HRs : qb_HR 700 a9 (fun a1 a2 a3 a4 a5 a6 fr => (hn, hf, ln, ll, rv, sl, ap, wl, ts, fr, 1, iu, a1, a2, a3, a4, a5, a6, a7, a8, a9, a10, a11, a12, a13, a14, a15)) := by
  intro a1 a2 a3 a4 a5 a6 p hp
  refine ⟨fun post h => ?_, fun post h => ?_⟩
  · unfold wpX_peek
    dsimp only
    rw [nI_clamp (by omega)]
    exact br_f (by decide) ⟨vp_in_nI (by omega) (by omega), h⟩
  · unfold wpX_take
    dsimp only
    rw [nI_clamp (by omega)]
    refine br_f (by decide) ⟨vp_in_nI (by omega) (by omega), ?_⟩
    unfold wX_take_41
    exact nm_r (nI_1 p) h
/-- no digit -/
def qb_nd (d : Int32) : Prop := d < 48 ∨ 57 < d
theorem qb_isd {P : Int32 → Prop} {e : Nat} (he : e < 10) (h : P 1) : wpX_isDigit P () (nI (48 + e)) := by
  unfold wpX_isDigit
  exact pk_lt (48 + e) 48 (fun z => absurd z (by omega)) (fun _ => pk_lt 57 (48 + e) (fun z => absurd z (by omega)) (fun _ => h))
theorem qb_isn {P : Int32 → Prop} {d : Int32} (hd : qb_nd d) (h : P 0) : wpX_isDigit P () d := by
  unfold wpX_isDigit
  rcases hd with hd | hd
  · exact br_t hd h
  · exact br_c (fun _ => h) (fun _ => br_t hd h)
theorem qb_acc {a e : Nat} : ((10 * lN a) + (nI (48 + e)).toInt64) - 48 = lN (10 * a + e) ∨ ¬ e < 10 := by
  by_cases he : e < 10
  · refine Or.inl ?_
    rw [nI_l (by omega), show (10 : Int64) = lN 10 from rfl, lN_mul, lN_add, show (48 : Int64) = lN 48 from rfl, lN_sub (by omega), show 10 * a + (48 + e) - 48 = 10 * a + e by omega]
  · exact Or.inr he
theorem qb_r31s (hR : qb_HR N f (fun a1 a2 a3 a4 a5 a6 fr => (hn, hf, ln, ll, rv, sl, ap, wl, ts, fr, fs, iu, a1, a2, a3, a4, a5, a6, a7, a8, a9, a10, a11, a12, a13, a14, a15))) {x1 : Int32} {n a e p : Nat} (hp : p < N) (he : e < 10) (hf' : f p = nI (48 + e)) (h : wX_takeNumber_31 post x1 n (lN (10 * a + e)) hn hf ln ll rv sl ap wl ts (nI (p + 1)) fs iu a1 a2 a3 a4 a5 a6 a7 a8 a9 a10 a11 a12 a13 a14 a15) : wX_takeNumber_31 post x1 (n + 1) (lN a) hn hf ln ll rv sl ap wl ts (nI p) fs iu a1 a2 a3 a4 a5 a6 a7 a8 a9 a10 a11 a12 a13 a14 a15 := by
  refine (hR a1 a2 a3 a4 a5 a6 p hp).1 _ ?_
  dsimp only
  rw [hf']
  refine qb_isd he (br_f (by decide) ((hR a1 a2 a3 a4 a5 a6 p hp).2 _ ?_))
  dsimp only
  rw [hf']
  refine nm_r ?_ h
  rcases qb_acc (a := a) (e := e) with g | g
  · exact g
  · exact absurd he g
theorem qb_r31e (hR : qb_HR N f (fun a1 a2 a3 a4 a5 a6 fr => (hn, hf, ln, ll, rv, sl, ap, wl, ts, fr, fs, iu, a1, a2, a3, a4, a5, a6, a7, a8, a9, a10, a11, a12, a13, a14, a15))) {x1 : Int32} {n a p : Nat} (hp : p < N) (hd : qb_nd (f p)) (h0 : x1 = 0 → post (lN a).toInt32 (hn, hf, ln, ll, rv, sl, ap, wl, ts, nI p, fs, iu, a1, a2, a3, a4, a5, a6, a7, a8, a9, a10, a11, a12, a13, a14, a15)) (h1 : ¬ x1 = 0 → post (-(lN a)).toInt32 (hn, hf, ln, ll, rv, sl, ap, wl, ts, nI p, fs, iu, a1, a2, a3, a4, a5, a6, a7, a8, a9, a10, a11, a12, a13, a14, a15)) : wX_takeNumber_31 post x1 (n + 1) (lN a) hn hf ln ll rv sl ap wl ts (nI p) fs iu a1 a2 a3 a4 a5 a6 a7 a8 a9 a10 a11 a12 a13 a14 a15 := by
  refine (hR a1 a2 a3 a4 a5 a6 p hp).1 _ ?_
  dsimp only
  exact qb_isn hd (br_t rfl (br_c h0 h1))
theorem qb_r31 (hR : qb_HR N f (fun a1 a2 a3 a4 a5 a6 fr => (hn, hf, ln, ll, rv, sl, ap, wl, ts, fr, fs, iu, a1, a2, a3, a4, a5, a6, a7, a8, a9, a10, a11, a12, a13, a14, a15))) {x1 d : Int32} {m : Nat} (hd : qb_nd d) : ∀ k p : Nat, p + k + 2 ≤ N → qb_tx f p (qb_dg m k ++ [d]) → (x1 = 0 → post (lN m).toInt32 (hn, hf, ln, ll, rv, sl, ap, wl, ts, nI (p + k + 1), fs, iu, a1, a2, a3, a4, a5, a6, a7, a8, a9, a10, a11, a12, a13, a14, a15)) → (¬ x1 = 0 → post (-(lN m)).toInt32 (hn, hf, ln, ll, rv, sl, ap, wl, ts, nI (p + k + 1), fs, iu, a1, a2, a3, a4, a5, a6, a7, a8, a9, a10, a11, a12, a13, a14, a15)) → wX_takeNumber_31 post x1 (k + 2) (lN (m / 10 ^ (k + 1))) hn hf ln ll rv sl ap wl ts (nI p) fs iu a1 a2 a3 a4 a5 a6 a7 a8 a9 a10 a11 a12 a13 a14 a15 := by
  intro k
  induction k with
  | zero =>
    intro p hp ht h0 h1
    refine qb_r31s hR (e := m % 10) (by omega) (by omega) ht.1 ?_
    rw [show 10 * (m / 10 ^ (0 + 1)) + m % 10 = m by omega]
    exact qb_r31e hR (by omega) (by rw [ht.2.1]; exact hd) h0 h1
  | succ k ih =>
    intro p hp ht h0 h1
    refine qb_r31s hR (e := m / 10 ^ (k + 1) % 10) (by omega) (by omega) ht.1 ?_
    rw [show 10 * (m / 10 ^ (k + 1 + 1)) + m / 10 ^ (k + 1) % 10 = m / 10 ^ (k + 1) by rw [Nat.mul_comm]; exact qb_dstep m (k + 1)]
    refine ih (p + 1) (by omega) ht.2 ?_ ?_
    · rw [show p + 1 + k + 1 = p + (k + 1) + 1 by omega]
      exact h0
    · rw [show p + 1 + k + 1 = p + (k + 1) + 1 by omega]
      exact h1
theorem qb_dg_hd (m : Nat) : ∀ k, ∃ e L, e < 10 ∧ qb_dg m k = nI (48 + e) :: L := by
  intro k
  cases k with
  | zero => exact ⟨m % 10, [], by omega, rfl⟩
  | succ k => exact ⟨m / 10 ^ (k + 1) % 10, qb_dg m k, by omega, rfl⟩
theorem qb_z0 {m : Nat} (h : m ≤ 2 ^ 31) : (0 : Int64) = lN (m / 10 ^ (qb_lg m + 1)) := by
  rw [Nat.div_eq_of_lt (qb_lg_hi (by omega))]
  rfl
theorem qb_rnum (hR : qb_HR N f (fun a1 a2 a3 a4 a5 a6 fr => (hn, hf, ln, ll, rv, sl, ap, wl, ts, fr, fs, iu, a1, a2, a3, a4, a5, a6, a7, a8, a9, a10, a11, a12, a13, a14, a15))) {z d : Int32} (hd : qb_nd d) {p : Nat} (hp : p + (qb_nm z).length + 1 ≤ N) (ht : qb_tx f p (qb_nm z ++ [d])) (h : post z (hn, hf, ln, ll, rv, sl, ap, wl, ts, nI (p + (qb_nm z).length), fs, iu, a1, a2, a3, a4, a5, a6, a7, a8, a9, a10, a11, a12, a13, a14, a15)) : wpX_takeNumber post (hn, hf, ln, ll, rv, sl, ap, wl, ts, nI p, fs, iu, a1, a2, a3, a4, a5, a6, a7, a8, a9, a10, a11, a12, a13, a14, a15) := by
  unfold wpX_takeNumber
  dsimp only
  have e64 := Int32.toInt32_toInt64 z
  rcases qb_nm_c z with ⟨m, h1, h2, h3, h4⟩ | ⟨m, h1, h2, h3, h4⟩
  · rw [h4] at hp ht h
    rw [qb_dg_len] at hp h
    obtain ⟨e, L, he, hL⟩ := qb_dg_hd m (qb_lg m)
    have hf0 : f p = nI (48 + e) := by
      rw [hL] at ht
      exact ht.1
    refine (hR a1 a2 a3 a4 a5 a6 p (by omega)).1 _ ?_
    rw [hf0]
    refine pk_eq (48 + e) 45 (fun c => absurd c (by omega)) (fun _ => ?_)
    unfold wX_takeNumber_14
    refine br_t rfl ⟨qb_lg m + 2, ?_⟩
    rw [qb_z0 h1]
    refine qb_r31 hR hd (qb_lg m) p (by omega) ht (fun _ => ?_) (fun c => absurd rfl c)
    rw [← h3, e64]
    exact h
  · rw [h4] at hp ht h
    rw [List.length_cons, qb_dg_len] at hp h
    refine (hR a1 a2 a3 a4 a5 a6 p (by omega)).1 _ ?_
    refine br_t ht.1 ?_
    unfold wX_takeNumber_14
    refine br_f (by decide) (nm_r (nI_1 p) ⟨qb_lg m + 2, ?_⟩)
    rw [qb_z0 h1]
    refine qb_r31 hR hd (qb_lg m) (p + 1) (by omega) ht.2 (fun c => absurd c (by decide)) (fun _ => ?_)
    rw [← h3, Int64.neg_neg, e64, show p + 1 + qb_lg m + 1 = p + (qb_lg m + 1 + 1) by omega]
    exact h
theorem qb_nd_c : qb_nd 44 ∧ qb_nd 46 ∧ qb_nd 58 ∧ qb_nd 80 := by
  refine ⟨Or.inl (by decide), Or.inl (by decide), Or.inr (by decide), Or.inr (by decide)⟩
theorem qb_robj8 {post : St2 → Prop} {fr0 fs0 : Int32} (hR : qb_HR N f (fun a1 a2 a3 a4 a5 a6 fr => (hn, hf, ln, ll, rv, sl, ap, wl, ts, fr, fs, iu, a1, a2, a3, a4, a5, a6, a7, a8, a9, a10, a11, a12, a13, a14, a15))) (hfs : fs = 0 ∨ fs = 1) {z : Int32} {j p : Nat} (hj : j < 9) (hp : p + 20 ≤ N) (ht : qb_tx f p (qb_ot 1 1 z 0))
    (h : ∀ b2 b5 b6 fr', b2 j = nI 1 → (∀ i, i ≠ j → b2 i = a2 i) → post (hn, hf, ln, ll, rv, sl, ap, wl, ts, fr', 0, iu, upd a1 j 1, b2, upd a3 (6 * j) z, upd a4 (6 * j) 0, b5, b6, a7, a8, a9, a10, a11, a12, a13, a14, a15)) : wX_readObject_8 post (nI j) (nI p) fs hn hf ln ll rv sl ap wl ts fr0 fs0 iu a1 a2 a3 a4 a5 a6 a7 a8 a9 a10 a11 a12 a13 a14 a15 := by
  have hl := qb_nm_len z
  have hot : qb_ot 1 1 z 0 = 49 :: 35 :: (qb_nm z ++ [44] ++ [41]) := by
    unfold qb_ot
    rw [if_neg (by omega), if_neg (by decide)]
    rfl
  rw [hot] at ht
  obtain ⟨t1, t2, t3⟩ := ht
  have t4 := (qb_tx_app.mp t3).1
  have t5 := (qb_tx_app.mp t3).2.1
  rw [List.length_append, List.length_cons, List.length_nil] at t5
  unfold wX_readObject_8
  have hnf : narrow .boolean (.int fs) = .int fs ∧ fits .boolean (.int fs) = true := by
    rcases hfs with e | e <;> rw [e] <;> exact ⟨rfl, rfl⟩
  refine ⟨hnf.1, hnf.2, (hR a1 a2 a3 a4 a5 a6 p (by omega)).2 _ ?_⟩
  dsimp only
  rw [t1]
  refine nm_r (e' := 1) (by decide) (qb_bec hj ?_)
  dsimp only
  refine br_f (by decide) ?_
  unfold wpX_readValues
  dsimp only
  refine ⟨2, ?_⟩
  rw [wX_readValues_0]
  refine (hR _ _ _ _ _ _ (p + 1) (by omega)).1 _ ?_
  dsimp only
  rw [t2]
  refine br_f (by decide) ⟨vp_in_nI hj (by omega), ?_⟩
  rw [nI_clamp (by omega), pk_us]
  refine br_f (by decide) ?_
  unfold wX_readValues_36
  refine (hR _ _ _ _ _ _ (p + 1) (by omega)).2 _ ?_
  dsimp only
  refine qb_rnum hR qb_nd_c.1 (by omega) t4 ?_
  dsimp only
  rw [t2]
  refine nm_r (nI_1 _) (br_f (by decide) (br_f (by decide) ?_))
  unfold wX_readValues_80
  refine qb_addv (s := 0) hj pk_us (by omega) ?_
  dsimp only
  rw [nI_clamp (show j < 2 ^ 31 by omega), pk_us, qb_i6]
  refine ⟨vp_in_nI hj (by omega), ?_⟩
  rw [show 6 * j + (0 + 1) = 6 * j + 1 from rfl, nI_pred, nI_clamp (by omega)]
  refine ⟨vp_in_nI (by omega) (by omega), nm_e ?_⟩
  rw [wX_readValues_0]
  refine (hR _ _ _ _ _ _ (p + 1 + 1 + (qb_nm z).length + 1) (by omega)).1 _ ?_
  dsimp only
  refine br_t t5 (h _ _ _ _ pk_us (fun i hi => ?_))
  rw [pk_un hi, pk_un hi]
end
end
section
section
variable {hn hf ln ll rv sl ap wl ts fr fs iu : Int32} {a1 a2 a3 a4 a5 a6 a7 a8 a9 a10 a11 a12 a13 a14 a15 : Nat → Int32}
theorem qb_un64 {post : St2 → Prop} {J : Int32 → Int32 → Int32 → Int32 → Int32 → Int32 → Int32 → Int32 → Int32 → Int32 → Int32 → Int32 → Int32 → (Nat → Int32) → (Nat → Int32) → (Nat → Int32) → (Nat → Int32) → (Nat → Int32) → (Nat → Int32) → (Nat → Int32) → (Nat → Int32) → (Nat → Int32) → (Nat → Int32) → (Nat → Int32) → (Nat → Int32) → (Nat → Int32) → (Nat → Int32) → (Nat → Int32) → Prop} {n i l : Nat} {b : Int32} (hn' : n ≤ 255) (hl : l ≤ 100) (hi : i + n ≤ l) :
    ∀ (g c : Nat) (a9 : Nat → Int32), c + g = n → (∀ b9, (∀ q, q < i + c → b9 q = a9 q) → (∀ q, i + c ≤ q → q < i + n → b9 q = b) → J (nI (i + n)) hn hf ln ll rv (nI l) ap wl ts fr fs iu a1 a2 a3 a4 a5 a6 a7 a8 b9 a10 a11 a12 a13 a14 a15) → wX_unpack_64 post J (nI n) b hn hf ln ll rv (nI l) ap wl ts fr fs iu (g + 1) (nI (i + c)) (nI c) a1 a2 a3 a4 a5 a6 a7 a8 a9 a10 a11 a12 a13 a14 a15 := by
  intro g
  induction g with
  | zero =>
    intro c a9 hc h
    refine pk_le n c (fun _ => ?_) (fun z => absurd z (by omega))
    rw [show i + c = i + n by omega]
    exact h a9 (fun q _ => rfl) (fun q h1 h2 => absurd h2 (by omega))
  | succ g ih =>
    intro c a9 hc h
    refine pk_le n c (fun z => absurd z (by omega)) (fun _ => pk_le l (i + c) (fun z => absurd z (by omega)) (fun _ => ⟨vp_in_nI (by omega) (by omega), ?_⟩))
    rw [nI_clamp (by omega)]
    refine nm_e (nm_r (nI_1 (i + c)) (nm_r (nI_1 c) (ih (c + 1) _ (by omega) (fun b9 g1 g2 => h b9 (fun q hq => ?_) (fun q h1 h2 => ?_)))))
    · rw [g1 q (by omega), pk_un (by omega)]
    · by_cases e : q = i + c
      · rw [g1 q (by omega), e, pk_us]
      · exact g2 q (by omega) h2
theorem qb_un43 {post : St2 → Prop} {h l : Nat} (hh : h ≤ 1) (hl : l ≤ 100) : ∀ (E : List (Nat × Int32)) (i p : Nat) (a9 : Nat → Int32), p + 2 * E.length ≤ 3000 → qb_ev E → qb_tx (qb_rf a7 h) p (qb_ec E) → i + (qb_ex E).length = l → (∀ b9 fr', (∀ q, q < i → b9 q = a9 q) → qb_tx b9 i (qb_ex E) → post (hn, nI h, ln, ll, rv, nI l, ap, wl, ts, fr', 0, iu, a1, a2, a3, a4, a5, a6, a7, a8, b9, a10, a11, a12, a13, a14, a15)) → wX_unpack_43 post (E.length + 1) (nI i) hn (nI h) ln ll rv (nI l) ap wl ts (nI p) 0 iu a1 a2 a3 a4 a5 a6 a7 a8 a9 a10 a11 a12 a13 a14 a15 := by
  intro E
  induction E with
  | nil =>
    intro i p a9 _ _ _ hi hp
    refine pk_le l i (fun _ => hp a9 (nI p) (fun q _ => rfl) trivial) (fun z => absurd z ?_)
    simp only [qb_ex, List.length_nil] at hi
    omega
  | cons e E ih =>
    intro i p a9 hpl hev ht hi hp
    obtain ⟨n, b⟩ := e
    have hR := fun (a9 : Nat → Int32) => qb_HRf (h := h) (hn := hn) (ln := ln) (ll := ll) (rv := rv) (sl := nI l) (ap := ap) (wl := wl) (ts := ts) (iu := iu) (a7 := a7) (a8 := a8) (a9 := a9) (a10 := a10) (a11 := a11) (a12 := a12) (a13 := a13) (a14 := a14) (a15 := a15) hh
    have hn1 := hev (n, b) List.mem_cons_self
    dsimp only at hn1
    simp only [qb_ex, List.length_append, List.length_replicate] at hi
    rw [List.length_cons] at hpl
    obtain ⟨t1, t2, t3⟩ := ht
    dsimp only at t1 t2
    refine pk_le l i (fun z => absurd z (by omega)) (fun _ => (hR a9 a1 a2 a3 a4 a5 a6 p (by omega)).2 _ ?_)
    dsimp only
    refine (hR a9 a1 a2 a3 a4 a5 a6 (p + 1) (by omega)).2 _ ?_
    dsimp only
    rw [t1, t2]
    refine ⟨n + 1, ?_⟩
    refine qb_un64 (i := i) hn1.2 hl (by omega) n 0 a9 (by omega) (fun b9 g1 g2 => ?_)
    refine ih (i + n) (p + 1 + 1) b9 (by omega) (fun q hq => hev q (List.mem_cons_of_mem _ hq)) t3 (by omega) (fun c9 fr' g3 g4 => ?_)
    refine hp c9 fr' (fun q hq => ?_) ?_
    · rw [g3 q (by omega), g1 q (by omega)]
    · simp only [qb_ex]
      rw [qb_tx_app, List.length_replicate]
      refine ⟨qb_tx_rep (fun q hq => ?_), g4⟩
      rw [g3 _ (by omega), g2 _ (by omega) (by omega)]
theorem qb_unp {post : St2 → Prop} {h : Nat} {X L : List Int32} {E : List (Nat × Int32)} (hh : h ≤ 1) (hX : X.length ≤ 15) (hE : qb_ev E) (hx : qb_ex E = X) (ht : qb_tx (qb_rf a7 h) 0 ((qb_nm (nI X.length) ++ (58 :: qb_ec E)) ++ L)) (hi : iu = 0 ∨ qb_tx a9 0 X)
    (hp : ∀ sl fr fs b9 iu', qb_tx b9 0 X → post (hn, nI h, ln, ll, rv, sl, ap, wl, ts, fr, fs, iu', a1, a2, a3, a4, a5, a6, a7, a8, b9, a10, a11, a12, a13, a14, a15)) : wpX_unpack post (hn, nI h, ln, ll, rv, sl, ap, wl, ts, fr, fs, iu, a1, a2, a3, a4, a5, a6, a7, a8, a9, a10, a11, a12, a13, a14, a15) := by
  unfold wpX_unpack
  dsimp only
  have hR := qb_HRf (h := h) (hn := hn) (ln := ln) (ll := ll) (rv := rv) (sl := sl) (ap := ap) (wl := wl) (ts := ts) (iu := 1) (a7 := a7) (a8 := a8) (a9 := a9) (a10 := a10) (a11 := a11) (a12 := a12) (a13 := a13) (a14 := a14) (a15 := a15) hh
  have hl := qb_nm_len (nI X.length)
  have he := qb_ec_len hE
  rw [hx] at he
  have hel : E.length * 2 = (qb_ec E).length := by
    clear ht hE hx he
    induction E with
    | nil => rfl
    | cons e E ih =>
      simp only [qb_ec, List.length_cons]
      omega
  have t1 := (qb_tx_app.mp ht).1
  have t2 := qb_tx_app.mp t1
  have t3 : qb_tx (qb_rf a7 h) 0 (qb_nm (nI X.length) ++ [58]) := qb_tx_app.mpr ⟨t2.1, t2.2.1, trivial⟩
  have t4 := t2.2.2
  refine br_c (fun _ => ?_) (fun c => ?_)
  · refine qb_rnum (p := 0) hR qb_nd_c.2.2.1 (by omega) t3 ?_
    dsimp only
    refine nm_r (nI_1 _) ⟨E.length + 1, ?_⟩
    refine qb_un43 hh (by omega) E 0 _ a9 (by omega) hE t4 (by rw [hx]; omega) (fun b9 fr' _ g => hp _ _ _ _ _ ?_)
    rw [hx] at g
    exact g
  · rcases hi with hi | hi
    · exact absurd hi c
    · exact hp _ _ _ _ _ hi
/-- an entry without an object -/
theorem qb_tlA {post : Int32 → St2 → Prop} {h i n p c : Nat} {x3 s : Int32} (hh : h ≤ 1) (hi : i ≤ 9) (hc : c < 8) (hp : p + 10 ≤ 3000) (ht : qb_tx (qb_rf a7 h) p [nI (48 + i), 45, 44])
    (hw : ∀ fr, wX_takeList_9 post x3 n (s ||| ((1 : Int32) <<< (nI i &&& 31))) (nI (p + 3)) (nI (c + 1)) hn (nI h) ln ll rv sl ap wl ts fr 0 iu a1 a2 a3 a4 a5 a6 a7 a8 a9 a10 a11 a12 a13 a14 a15) : wX_takeList_9 post x3 (n + 1) s (nI p) (nI c) hn (nI h) ln ll rv sl ap wl ts fr fs iu a1 a2 a3 a4 a5 a6 a7 a8 a9 a10 a11 a12 a13 a14 a15 := by
  have hR := qb_HRf (h := h) (hn := hn) (ln := ln) (ll := ll) (rv := rv) (sl := sl) (ap := ap) (wl := wl) (ts := ts) (iu := iu) (a7 := a7) (a8 := a8) (a9 := a9) (a10 := a10) (a11 := a11) (a12 := a12) (a13 := a13) (a14 := a14) (a15 := a15) hh
  obtain ⟨t1, t2, _⟩ := ht
  refine pk_le 8 c (fun z => absurd z (by omega)) (fun _ => (hR a1 a2 a3 a4 a5 a6 p (by omega)).1 _ ?_)
  dsimp only
  rw [t1]
  refine qb_isd (by omega) (br_f (by decide) ((hR a1 a2 a3 a4 a5 a6 p (by omega)).2 _ ?_))
  dsimp only
  rw [t1]
  refine nm_r (e' := nI i) ?_ ((hR a1 a2 a3 a4 a5 a6 (p + 1) (by omega)).2 _ ?_)
  · rw [show (48 : Int32) = nI 48 from rfl, pk_sub (by omega), show 48 + i - 48 = i by omega]
  dsimp only
  rw [t2]
  refine br_t rfl ?_
  unfold wX_takeList_70
  refine nm_r (nI_1 _) ?_
  have G : wX_takeList_137 post (wX_takeList_9 post x3 n) x3 s (nI (p + 1 + 1 + 1)) (nI c) (nI i) hn (nI h) ln ll rv sl ap wl ts (nI (p + 1 + 1)) 0 iu a1 a2 a3 a4 a5 a6 a7 a8 a9 a10 a11 a12 a13 a14 a15 := by
    unfold wX_takeList_137
    exact nm_e (nm_r (nI_1 c) (hw _))
  exact br_c (fun _ => br_t (by decide) G) (fun _ => G)
/-- an entry with the object j -/
theorem qb_tlB {post : Int32 → St2 → Prop} {h j n p c w : Nat} {x3 s z : Int32} {L PRE : List Int32} (hh : h ≤ 1) (hw2 : w ≤ 2) (hj : j < 9) (hc : c < 8) (hp : p + 10 ≤ 3000) (ht : qb_tx (qb_rf a7 h) p [nI (48 + j), qb_mk w, nI 48, 44]) (hs : (s >>> (nI j &&& 31)) &&& 1 = 0) (hP : qb_PR w (qb_ot 1 1 z 0) PRE) (htP : qb_tx (qb_rf a7 h) 0 (PRE ++ L)) (hiu : iu = 0 ∨ qb_tx a9 0 (qb_ot 1 1 z 0))
    (hw : ∀ fr sl iu b2 b5 b6 b9, (iu = 0 ∨ qb_tx b9 0 (qb_ot 1 1 z 0)) → b2 j = nI 1 → (∀ i, i ≠ j → b2 i = a2 i) → wX_takeList_9 post x3 n (s ||| ((1 : Int32) <<< (nI j &&& 31))) (nI (p + 4)) (nI (c + 1)) hn (nI h) ln ll rv sl ap wl ts fr 0 iu (upd a1 j 1) b2 (upd a3 (6 * j) z) (upd a4 (6 * j) 0) b5 b6 a7 a8 b9 a10 a11 a12 a13 a14 a15) : wX_takeList_9 post x3 (n + 1) s (nI p) (nI c) hn (nI h) ln ll rv sl ap wl ts fr fs iu a1 a2 a3 a4 a5 a6 a7 a8 a9 a10 a11 a12 a13 a14 a15 := by
  have hR := qb_HRf (h := h) (hn := hn) (ln := ln) (ll := ll) (rv := rv) (sl := sl) (ap := ap) (wl := wl) (ts := ts) (iu := iu) (a7 := a7) (a8 := a8) (a9 := a9) (a10 := a10) (a11 := a11) (a12 := a12) (a13 := a13) (a14 := a14) (a15 := a15) hh
  obtain ⟨t1, t2, t3, t4, _⟩ := ht
  have hmk : ¬ qb_mk w = 45 := by
    have C : w = 0 ∨ w = 1 ∨ w = 2 := by omega
    rcases C with e | e | e <;> rw [e] <;> decide
  refine pk_le 8 c (fun z => absurd z (by omega)) (fun _ => (hR a1 a2 a3 a4 a5 a6 p (by omega)).1 _ ?_)
  dsimp only
  rw [t1]
  refine qb_isd (by omega) (br_f (by decide) ((hR a1 a2 a3 a4 a5 a6 p (by omega)).2 _ ?_))
  dsimp only
  rw [t1]
  refine nm_r (e' := nI j) ?_ ((hR a1 a2 a3 a4 a5 a6 (p + 1) (by omega)).2 _ ?_)
  · rw [show (48 : Int32) = nI 48 from rfl, pk_sub (by omega), show 48 + j - 48 = j by omega]
  dsimp only
  rw [t2]
  refine br_f hmk (qb_rnum (z := 0) (d := 44) hR qb_nd_c.1 (by rw [qb_nm_0]; simp; omega) (by rw [qb_nm_0]; exact ⟨t3, t4, trivial⟩) ?_)
  dsimp only
  rw [qb_nm_0]
  unfold wX_takeList_70
  refine nm_r (nI_1 _) (br_t hs (br_f (by decide) ?_))
  -- behind the object
  have G : ∀ fr sl iu b2 b5 b6 b9, (iu = 0 ∨ qb_tx b9 0 (qb_ot 1 1 z 0)) → b2 j = nI 1 → (∀ i, i ≠ j → b2 i = a2 i) → ∀ y, wX_takeList_136 post (wX_takeList_9 post x3 n) x3 s (nI (p + 1 + 1 + [nI 48].length + 1)) (nI c) (nI j) y (nI j) hn (nI h) ln ll rv sl ap wl ts fr 0 iu (upd a1 j 1) b2 (upd a3 (6 * j) z) (upd a4 (6 * j) 0) b5 b6 a7 a8 b9 a10 a11 a12 a13 a14 a15 := by
    intro fr sl iu b2 b5 b6 b9 g1 g2 g3 y
    unfold wX_takeList_136
    refine ⟨vp_in_nI hj (by omega), nm_e ?_⟩
    unfold wX_takeList_137
    exact nm_e (nm_r (nI_1 c) (hw _ _ _ _ _ _ _ g1 g2 g3))
  rcases hP with ⟨hw', e⟩ | ⟨hw', E, hE, hx, e⟩
  · have hmk2 : ¬ qb_mk w = 42 := by
      have C : w = 0 ∨ w = 1 ∨ w = 2 := by omega
      rcases C with e | e | e
      · rw [e]
        decide
      · rw [e]
        decide
      · exact absurd e hw'
    refine br_f hmk2 ?_
    unfold wX_takeList_112
    unfold wpX_readObject
    dsimp only
    refine br_t rfl ?_
    refine qb_robj8 (p := 0) hR (Or.inl rfl) hj (by omega) (by rw [← e]; exact (qb_tx_app.mp htP).1) (fun b2 b5 b6 fr' g2 g3 => ?_)
    dsimp only
    exact br_c (fun _ => G _ _ _ _ _ _ _ hiu g2 g3 _) (fun _ => G _ _ _ _ _ _ _ hiu g2 g3 _)
  · rw [hw']
    refine br_t rfl ?_
    unfold wX_takeList_112
    unfold wpX_readObject
    dsimp only
    refine br_f (by decide) ?_
    refine qb_unp hh (qb_ot_len _ _ _ _) hE hx (by rw [← e]; exact htP) hiu (fun sl fr fs b9 iu' g => ?_)
    dsimp only
    have hR2 := qb_HRs (hn := hn) (hf := nI h) (ln := ln) (ll := ll) (rv := rv) (sl := sl) (ap := ap) (wl := wl) (ts := ts) (iu := iu') (a7 := a7) (a8 := a8) (a9 := b9) (a10 := a10) (a11 := a11) (a12 := a12) (a13 := a13) (a14 := a14) (a15 := a15)
    refine qb_robj8 (p := 0) hR2 (Or.inr rfl) hj (by omega) g (fun b2 b5 b6 fr' g2 g3 => ?_)
    dsimp only
    exact br_c (fun _ => G _ _ _ _ _ _ _ (Or.inr g) g2 g3 _) (fun _ => G _ _ _ _ _ _ _ (Or.inr g) g2 g3 _)
end
end
section
section
variable {hn hf ln ll rv sl ap wl ts fr fs iu : Int32} {a1 a2 a3 a4 a5 a6 a7 a8 a9 a10 a11 a12 a13 a14 a15 : Nat → Int32}
/-- the objects seen ahead of i -/
def qb_sm (i : Nat) : Int32 := nI (2 ^ i - 2)
theorem qb_sm_s : ∀ i, i < 9 → 1 ≤ i → ((qb_sm i >>> (nI i &&& 31)) &&& 1 = 0 ∧ qb_sm i ||| ((1 : Int32) <<< (nI i &&& 31)) = qb_sm (i + 1)) := by decide
theorem qb_sm_0 : ∀ i, i < 9 → ((0 : Int32) >>> (nI i &&& 31)) &&& 1 = 0 := by decide
/-- how many values a loaded object has -/
def qb_nK (K : Int32) : Nat := if K = 0 then 0 else 1
theorem qb_es0 {j : Nat} {K mk : Int32} (h1 : 1 ≤ j) (h2 : j ≤ 8) : qb_es 0 j K mk 8 = if K = 0 then [] else qb_en j K mk j := by
  have C : j = 1 ∨ j = 2 ∨ j = 3 ∨ j = 4 ∨ j = 5 ∨ j = 6 ∨ j = 7 ∨ j = 8 := by omega
  by_cases hK : K = 0
  · rw [if_pos hK]
    rcases C with e | e | e | e | e | e | e | e <;> subst e <;> simp [qb_es, hK]
  · rw [if_neg hK]
    rcases C with e | e | e | e | e | e | e | e <;> subst e <;> simp [qb_es, hK]
theorem qb_es1 {j i : Nat} {K mk : Int32} : qb_es 1 j K mk (i + 1) = qb_es 1 j K mk i ++ qb_en j K mk (i + 1) := by
  rw [qb_es, if_neg (fun h => absurd h.1 (by decide))]
theorem qb_es_at {f : Nat → Int32} {j p i : Nat} {K mk : Int32} : ∀ m, i + 1 ≤ m → qb_tx f p (qb_es 1 j K mk m) → qb_tx f (p + (qb_es 1 j K mk i).length) (qb_en j K mk (i + 1)) := by
  intro m
  induction m with
  | zero => intro h; omega
  | succ m ih =>
    intro h ht
    rw [qb_es1, qb_tx_app] at ht
    by_cases e : m = i
    · rw [← e]
      exact ht.2
    · exact ih (by omega) ht.1
theorem qb_ob_up {j : Nat} {z : Int32} {b2 : Nat → Int32} {v k : Int32} (h : qb_ob j 0 0 v k a1 a2 a3 a4) (g2 : b2 j = nI 1) (g3 : ∀ i, i ≠ j → b2 i = a2 i) : qb_ob j 1 1 z 0 (upd a1 j 1) b2 (upd a3 (6 * j) z) (upd a4 (6 * j) 0) := by
  obtain ⟨o1, o2, o3⟩ := h
  refine ⟨fun i h1 h2 => ?_, fun i h1 h2 => ?_, fun _ => ⟨pk_us, pk_us⟩⟩
  · by_cases e : i = j
    · rw [e, pk_us, if_pos rfl]
    · rw [pk_un e, o1 i h1 h2, if_neg e, if_neg e]
  · by_cases e : i = j
    · rw [e, g2, if_pos rfl]
    · rw [g3 i e, o2 i h1 h2, if_neg e, if_neg e]
theorem qb_ob_0 {j : Nat} {v k v' k' : Int32} (h : qb_ob j 0 0 v k a1 a2 a3 a4) : qb_ob j 0 0 v' k' a1 a2 a3 a4 :=
  ⟨h.1, h.2.1, fun e => absurd e (by omega)⟩
/-- no object is there -/
theorem qb_ob_z {j : Nat} {v k : Int32} (h : ∀ i, 1 ≤ i → i ≤ 8 → a1 i = 0 ∧ a2 i = 0) : qb_ob j 0 0 v k a1 a2 a3 a4 := by
  refine ⟨fun i h1 h2 => ?_, fun i h1 h2 => ?_, fun e => absurd e (by omega)⟩
  · rw [(h i h1 h2).1]
    split <;> rfl
  · rw [(h i h1 h2).2]
    split <;> rfl
theorem qb_ob_zi {j : Nat} {v k : Int32} (h : qb_ob j 0 0 v k a1 a2 a3 a4) : ∀ i, 1 ≤ i → i ≤ 8 → a1 i = 0 ∧ a2 i = 0 := by
  intro i h1 h2
  have g1 := h.1 i h1 h2
  have g2 := h.2.1 i h1 h2
  constructor
  · rw [g1]
    split <;> rfl
  · rw [g2]
    split <;> rfl
/-- the list of a whole revision is read -/
theorem qb_tl {post : Int32 → St2 → Prop} {h w j : Nat} {K z v k : Int32} {PRE : List Int32} (hh : h ≤ 1) (hw : w ≤ 2) (hj1 : 1 ≤ j) (hj : j ≤ 8) (hK : K = 0 ∨ K = 1) (hP : qb_PR w (qb_ox K 1 z 0) PRE) (ht : qb_tx (qb_rf a7 h) 0 (qb_TX w j K PRE)) (ho : qb_ob j 0 0 v k a1 a2 a3 a4) (hiu : iu = 0 ∨ qb_tx a9 0 (qb_ox K 1 z 0))
    (hp : ∀ r sl fr fs iu b1 b2 b3 b4 b5 b6 b9, qb_ob j K (qb_nK K) z 0 b1 b2 b3 b4 → (iu = 0 ∨ qb_tx b9 0 (qb_ox K 1 z 0)) → post r (hn, nI h, ln, ll, rv, sl, ap, wl, ts, fr, fs, iu, b1, b2, b3, b4, b5, b6, a7, a8, b9, a10, a11, a12, a13, a14, a15)) : wpX_takeList post (hn, nI h, ln, ll, rv, sl, ap, wl, ts, fr, fs, iu, a1, a2, a3, a4, a5, a6, a7, a8, a9, a10, a11, a12, a13, a14, a15) (nI PRE.length) 0 0 := by
  have hPl := qb_PR_len hP (qb_ox_len K 1 z 0)
  have hR := fun (sl iu : Int32) (a9 : Nat → Int32) => qb_HRf (h := h) (hn := hn) (ln := ln) (ll := ll) (rv := rv) (sl := sl) (ap := ap) (wl := wl) (ts := ts) (iu := iu) (a7 := a7) (a8 := a8) (a9 := a9) (a10 := a10) (a11 := a11) (a12 := a12) (a13 := a13) (a14 := a14) (a15 := a15) hh
  unfold qb_TX at ht
  have ht1 := (qb_tx_app.mp ht).1
  have ht2 := (qb_tx_app.mp ht).2.1
  have ht3 := (qb_tx_app.mp ht1).2
  rw [Nat.zero_add] at ht2 ht3
  unfold wpX_takeList
  dsimp only
  by_cases hw0 : w = 0
  · -- the revision has what was touched alone
    subst hw0
    rw [show qb_al 0 = 0 from rfl, qb_es0 hj1 hj] at ht2 ht3
    rcases hK with hK | hK
    · subst hK
      rw [if_pos rfl] at ht2 ht3
      rw [List.append_nil] at ht2
      refine ⟨1, pk_le 8 0 (fun c => absurd c (by omega)) (fun _ => (hR _ _ _ a1 a2 a3 a4 a5 a6 _ (by omega)).1 _ ?_)⟩
      dsimp only
      rw [ht2]
      exact qb_isn qb_nd_c.2.2.2 (br_t rfl (hp _ _ _ _ _ _ _ _ _ _ _ _ (qb_ob_0 ho) hiu))
    · subst hK
      rw [if_neg (by decide)] at ht2 ht3
      have hox : qb_ox 1 1 z 0 = qb_ot 1 1 z 0 := by
        unfold qb_ox
        rw [if_neg (by decide)]
      rw [hox] at hP hiu
      unfold qb_en at ht2 ht3
      rw [if_pos ⟨rfl, by decide⟩] at ht2 ht3
      refine ⟨2, qb_tlB (c := 0) hh hw (by omega) (by omega) (by omega) ht3 (qb_sm_0 j (by omega)) hP (L := _) (by rw [List.append_assoc] at ht; exact ht) hiu (fun fr sl iu b2 b5 b6 b9 g1 g2 g3 => ?_)⟩
      refine pk_le 8 (0 + 1) (fun c => absurd c (by omega)) (fun _ => (hR _ _ _ _ _ _ _ _ _ _ (by omega)).1 _ ?_)
      dsimp only
      rw [List.length_append] at ht2
      rw [show qb_rf a7 h (PRE.length + 4) = 80 from ht2]
      refine qb_isn qb_nd_c.2.2.2 (br_t rfl (hp _ _ _ _ _ _ _ _ _ _ _ _ (qb_ob_up ho g2 g3) ?_))
      rw [hox]
      exact g1
  · -- it has them all
    have hal : qb_al w = 1 := by
      have C : w = 1 ∨ w = 2 := by omega
      rcases C with e | e <;> rw [e] <;> rfl
    rw [hal] at ht ht2 ht3
    have L : ∀ (g i : Nat), i + g = 8 → ∀ (sl fr fs iu : Int32) (a1 a2 a3 a4 a5 a6 a9 : Nat → Int32), (if j ≤ i then qb_ob j K (qb_nK K) z 0 a1 a2 a3 a4 else qb_ob j 0 0 v k a1 a2 a3 a4) → (iu = 0 ∨ qb_tx a9 0 (qb_ox K 1 z 0)) → wX_takeList_9 post 0 (g + 1) (qb_sm (i + 1)) (nI (PRE.length + (qb_es 1 j K (qb_mk w) i).length)) (nI i) hn (nI h) ln ll rv sl ap wl ts fr fs iu a1 a2 a3 a4 a5 a6 a7 a8 a9 a10 a11 a12 a13 a14 a15 := by
      intro g
      induction g with
      | zero =>
        intro i hi sl fr fs iu a1 a2 a3 a4 a5 a6 a9 h1 h2
        rw [if_pos (by omega)] at h1
        exact pk_le 8 i (fun _ => hp _ _ _ _ _ _ _ _ _ _ _ _ h1 h2) (fun c => absurd c (by omega))
      | succ g ih =>
        intro i hi sl fr fs iu a1 a2 a3 a4 a5 a6 a9 h1 h2
        have hle := qb_es_len 1 j K (qb_mk w) i
        have hen := qb_es_at (i := i) 8 (by omega) ht3
        obtain ⟨s1, s2⟩ := qb_sm_s (i + 1) (by omega) (by omega)
        have hlen : (qb_es 1 j K (qb_mk w) (i + 1)).length = (qb_es 1 j K (qb_mk w) i).length + (qb_en j K (qb_mk w) (i + 1)).length := by
          rw [qb_es1, List.length_append]
        by_cases hc : i + 1 = j ∧ ¬ K = 0
        · obtain ⟨hc1, hc2⟩ := hc
          have hK1 : K = 1 := by
            rcases hK with e | e
            · exact absurd e hc2
            · exact e
          subst hK1
          have hox : qb_ox 1 1 z 0 = qb_ot 1 1 z 0 := by
            unfold qb_ox
            rw [if_neg (by decide)]
          have hen' : qb_en j 1 (qb_mk w) (i + 1) = [nI (48 + j), qb_mk w, nI 48, 44] := by
            unfold qb_en
            rw [if_pos ⟨hc1, by decide⟩, hc1]
          rw [hen'] at hen hlen
          rw [if_neg (by omega)] at h1
          rw [hox] at h2
          refine qb_tlB (j := j) hh hw (by omega) (by omega) (by omega) hen (by rw [← hc1]; exact s1) (by rw [← hox]; exact hP) (L := _) (by rw [List.append_assoc] at ht; exact ht) h2 (fun fr sl iu b2 b5 b6 b9 g1 g2 g3 => ?_)
          rw [← hc1, s2, hc1]
          have := ih (i + 1) (by omega) sl fr 0 iu (upd a1 j 1) b2 (upd a3 (6 * j) z) (upd a4 (6 * j) 0) b5 b6 b9 (by rw [if_pos (by omega)]; exact qb_ob_up h1 g2 g3) (by rw [hox]; exact g1)
          rw [hlen, ← Nat.add_assoc, hc1] at this
          exact this
        · have hen' : qb_en j K (qb_mk w) (i + 1) = [nI (48 + (i + 1)), 45, 44] := by
            unfold qb_en
            rw [if_neg hc]
          rw [hen'] at hen hlen
          refine qb_tlA hh (by omega) (by omega) (by omega) hen (fun fr => ?_)
          rw [s2]
          have := ih (i + 1) (by omega) sl fr 0 iu a1 a2 a3 a4 a5 a6 a9 (by
            by_cases q1 : j ≤ i
            · rw [if_pos q1] at h1
              rw [if_pos (by omega)]
              exact h1
            · rw [if_neg q1] at h1
              by_cases q2 : j = i + 1
              · have hK0 : K = 0 := by
                  by_cases q3 : K = 0
                  · exact q3
                  · exact absurd ⟨q2.symm, q3⟩ hc
                rw [if_pos (by omega), hK0]
                exact qb_ob_0 h1
              · rw [if_neg (by omega)]
                exact h1) h2
          rw [hlen, ← Nat.add_assoc] at this
          exact this
    refine ⟨9, ?_⟩
    have := L 8 0 (by omega) sl fr fs iu a1 a2 a3 a4 a5 a6 a9 (by rw [if_neg (by omega)]; exact ho) hiu
    exact this
theorem qb_lb {post : Int32 → St2 → Prop} {h : Nat} {z d : Int32} (hh : h ≤ 1) (hd : qb_nd d) : ∀ (L : List Int32) (p : Nat), p + L.length + 20 ≤ 3700 → qb_tx (qb_rf a7 h) p (L ++ (80 :: (qb_nm z ++ [d]))) → (∀ b, b ∈ L → ¬ b = 80) → (∀ fr, post z (hn, nI h, ln, ll, rv, sl, ap, wl, ts, fr, 0, iu, a1, a2, a3, a4, a5, a6, a7, a8, a9, a10, a11, a12, a13, a14, a15)) → wX_listBefore_10 post hn (nI h) ln ll rv sl ap wl ts 0 iu a1 a2 a3 a4 a5 a6 a7 a8 a9 a10 a11 a12 a13 a14 a15 (L.length + 1) (nI p) := by
  have hR := qb_HRf (h := h) (hn := hn) (ln := ln) (ll := ll) (rv := rv) (sl := sl) (ap := ap) (wl := wl) (ts := ts) (iu := iu) (a7 := a7) (a8 := a8) (a9 := a9) (a10 := a10) (a11 := a11) (a12 := a12) (a13 := a13) (a14 := a14) (a15 := a15) hh
  have hl := qb_nm_len z
  intro L
  induction L with
  | nil =>
    intro p hp ht _ hq
    rw [List.length_nil] at hp
    rw [wX_listBefore_10]
    refine (hR a1 a2 a3 a4 a5 a6 p (by omega)).1 _ ?_
    dsimp only
    refine br_t ht.1 (nm_r (nI_1 p) (qb_rnum hR hd (by omega) ht.2 ?_))
    dsimp only
    exact hq _
  | cons b L ih =>
    intro p hp ht hb hq
    rw [List.length_cons] at hp
    rw [wX_listBefore_10]
    refine (hR a1 a2 a3 a4 a5 a6 p (by omega)).1 _ ?_
    dsimp only
    refine br_f ?_ (nm_r (nI_1 p) (ih (p + 1) (by omega) ht.2 (fun c hc => hb c (List.mem_cons_of_mem b hc)) hq))
    rw [ht.1]
    exact hb b List.mem_cons_self
theorem qb_en_80 {j i : Nat} {K mk : Int32} (hi : i ≤ 8) (hm : ¬ mk = 80) : ∀ b, b ∈ qb_en j K mk i → ¬ b = 80 := by
  have e : ¬ nI (48 + i) = 80 := by
    rw [show (80 : Int32) = nI 80 from rfl, nI_eq (by omega) (by omega)]
    omega
  intro b hb
  unfold qb_en at hb
  split at hb
  · simp only [List.mem_cons, List.not_mem_nil, or_false] at hb
    rcases hb with hb | hb | hb | hb <;> rw [hb]
    · exact e
    · exact hm
    · decide
    · decide
  · simp only [List.mem_cons, List.not_mem_nil, or_false] at hb
    rcases hb with hb | hb | hb <;> rw [hb]
    · exact e
    · decide
    · decide
theorem qb_es_80 {j : Nat} {x1 K mk : Int32} (hm : ¬ mk = 80) : ∀ i, i ≤ 8 → ∀ b, b ∈ qb_es x1 j K mk i → ¬ b = 80 := by
  intro i
  induction i with
  | zero =>
    intro _ b hb
    simp [qb_es] at hb
  | succ i ih =>
    intro hi b hb
    unfold qb_es at hb
    rw [List.mem_append] at hb
    rcases hb with hb | hb
    · exact ih (by omega) b hb
    · split at hb
      · simp at hb
      · exact qb_en_80 hi hm b hb
theorem qb_mk_80 {w : Nat} (hw : w ≤ 2) : ¬ qb_mk w = 80 := by
  have C : w = 0 ∨ w = 1 ∨ w = 2 := by omega
  rcases C with e | e | e <;> rw [e] <;> decide
theorem qb_load2 {post : St2 → Prop} {x1 : Int32} (hx : ∀ n b1 b2 b6, (∀ i, 1 ≤ i → i ≤ 8 → b1 i = 0 ∧ b2 i = 0) → wX_load_2 post x1 (n + 1) (nI 9) hn hf ln ll rv sl ap wl ts fr fs iu b1 b2 a3 a4 a5 b6 a7 a8 a9 a10 a11 a12 a13 a14 a15) : wpX_load post (hn, hf, ln, ll, rv, sl, ap, wl, ts, fr, fs, iu, a1, a2, a3, a4, a5, a6, a7, a8, a9, a10, a11, a12, a13, a14, a15) x1 := by
  unfold wpX_load
  dsimp only
  refine pk_loop (fun n i (s : (Nat → Int32) × (Nat → Int32) × (Nat → Int32)) => wX_load_2 post x1 n (nI i) hn hf ln ll rv sl ap wl ts fr fs iu s.1 s.2.1 a3 a4 a5 s.2.2 a7 a8 a9 a10 a11 a12 a13 a14 a15) (fun i s => 1 ≤ i ∧ ∀ x, 1 ≤ x → x < i → s.1 x = 0 ∧ s.2.1 x = 0) 9 1 (a1, a2, a6) (by omega) ⟨by omega, fun x h1 h2 => absurd h2 (by omega)⟩ ?_ ?_
  · rintro n ⟨b1, b2, b6⟩ ⟨_, h2⟩
    exact hx n b1 b2 b6 (fun i h1 h3 => h2 i h1 (by omega))
  · rintro n i ⟨b1, b2, b6⟩ hi ⟨h1, h2⟩ hw
    dsimp only at h2 ⊢
    have G : ∀ y, wX_load_2 post x1 n (nI (i + 1)) hn hf ln ll rv sl ap wl ts fr fs iu (upd b1 i 0) (upd b2 i 0) a3 a4 a5 (upd (upd b6 i 1) i y) a7 a8 a9 a10 a11 a12 a13 a14 a15 := by
      intro y
      refine hw (upd b1 i 0, upd b2 i 0, upd (upd b6 i 1) i y) ⟨by omega, fun x g1 g2 => ?_⟩
      dsimp only
      by_cases e : x = i
      · rw [e, pk_us, pk_us]
        exact ⟨rfl, rfl⟩
      · rw [pk_un e, pk_un e]
        exact h2 x g1 (by omega)
    refine pk_lt 8 i (fun c => absurd c (by omega)) (fun _ => qb_bec (by omega) ?_)
    dsimp only
    rw [nI_clamp (show i < 2 ^ 31 by omega)]
    exact br_c (fun _ => ⟨pk_in i 9 (by omega), nm_e (nm_r (nI_1 i) (G 0))⟩) (fun _ => ⟨pk_in i 9 (by omega), nm_e (nm_r (nI_1 i) (G 1))⟩)
theorem qb_loadU {post : St2 → Prop} {j : Nat} {v k : Int32} (hp : ∀ b1 b2 b6, qb_ob j 0 0 v k b1 b2 a3 a4 → post (hn, hf, ln, ll, rv, sl, ap, wl, ts, fr, fs, iu, b1, b2, a3, a4, a5, b6, a7, a8, a9, a10, a11, a12, a13, a14, a15)) : wpX_load post (hn, hf, ln, ll, rv, sl, ap, wl, ts, fr, fs, iu, a1, a2, a3, a4, a5, a6, a7, a8, a9, a10, a11, a12, a13, a14, a15) (-1) :=
  qb_load2 (fun n b1 b2 b6 h => pk_lt 8 9 (fun _ => br_f (by decide) ⟨1, br_f (by decide) (br_t (by decide) (hp b1 b2 b6 (qb_ob_z h)))⟩) (fun c => absurd c (by omega)))
/-- the last revision of the file in half h holds the object j of kind K (0: none), the number z -/
def qb_FL (h j : Nat) (K z ll : Int32) (a7 : Nat → Int32) : Prop := ∃ (w : Nat) (PRE : List Int32), w ≤ 2 ∧ qb_PR w (qb_ox K 1 z 0) PRE ∧ ll = nI PRE.length ∧ qb_tx (qb_rf a7 h) 0 (qb_TX w j K PRE)
theorem qb_loadS {post : St2 → Prop} {h j : Nat} {K z : Int32} (hh : h ≤ 1) (hj1 : 1 ≤ j) (hj : j ≤ 8) (hK : K = 0 ∨ K = 1) (hrv : rv = 1) (hfl : qb_FL h j K z ll a7) (hiu : iu = 0 ∨ qb_tx a9 0 (qb_ox K 1 z 0))
    (hp : ∀ sl fr fs iu b1 b2 b3 b4 b5 b6 b9, qb_ob j K (qb_nK K) z 0 b1 b2 b3 b4 → (iu = 0 ∨ qb_tx b9 0 (qb_ox K 1 z 0)) → post (hn, nI h, ln, ll, rv, sl, ap, wl, ts, fr, fs, iu, b1, b2, b3, b4, b5, b6, a7, a8, b9, a10, a11, a12, a13, a14, a15)) : wpX_load post (hn, nI h, ln, ll, rv, sl, ap, wl, ts, fr, fs, iu, a1, a2, a3, a4, a5, a6, a7, a8, a9, a10, a11, a12, a13, a14, a15) 0 := by
  obtain ⟨w, PRE, hw, hP, hll, ht⟩ := hfl
  subst hrv hll
  have hPl := qb_PR_len hP (qb_ox_len K 1 z 0)
  have hes := qb_es_len (qb_al w) j K (qb_mk w) 8
  refine qb_load2 (fun n b1 b2 b6 h0 => pk_lt 8 9 (fun _ => br_t (by decide) ?_) (fun c => absurd c (by omega)))
  unfold wpX_listOf
  dsimp only
  refine nm_r (e' := 0) (by decide) ⟨1, br_t (by decide) ⟨2, br_f (by decide) (br_f (nI_pos (by omega)) ?_)⟩⟩
  refine qb_tl hh hw hj1 hj hK hP ht (qb_ob_z (v := 0) (k := 0) h0) hiu (fun r sl fr fs iu c1 c2 c3 c4 c5 c6 c9 g1 g2 => ?_)
  dsimp only
  unfold qb_TX at ht
  rw [List.append_assoc, qb_tx_app, Nat.zero_add] at ht
  unfold wpX_listBefore
  dsimp only
  refine ⟨_, qb_lb hh qb_nd_c.2.1 _ _ (by omega) ht.2 (qb_es_80 (qb_mk_80 hw) 8 (by omega)) (fun fr => ?_)⟩
  dsimp only
  refine nm_e (br_f (by decide) (br_t (by decide) ?_))
  exact hp _ _ _ _ _ _ _ _ _ _ _ g1 g2
end
end
section
section
variable {hn hf ln ll rv sl ap wl ts fr fs iu : Int32} {a1 a2 a3 a4 a5 a6 a7 a8 a9 a10 a11 a12 a13 a14 a15 : Nat → Int32}
/-- no object's number -/
def qb_bd (o : Int32) : Prop := o < 1 ∨ 8 < o
theorem qb_obN {P : Int32 → Prop} {o : Int32} (h : qb_bd o) (hp : P 0) : wpX_isObject P () o := by
  unfold wpX_isObject
  rcases h with h | h
  · exact br_t h hp
  · exact br_c (fun _ => hp) (fun _ => br_t h hp)
theorem qb_obY {P : Int32 → Prop} {j : Nat} (h1 : 1 ≤ j) (h2 : j ≤ 8) (hp : P 1) : wpX_isObject P () (nI j) := by
  unfold wpX_isObject
  exact pk_lt j 1 (fun c => absurd c (by omega)) (fun _ => pk_lt 8 j (fun c => absurd c (by omega)) (fun _ => hp))
theorem qb_kindN {P : Int32 → Prop} {o : Int32} (h : qb_bd o) (hp : P (-1)) : wpX_kind P (hn, hf, ln, ll, rv, sl, ap, wl, ts, fr, fs, iu, a1, a2, a3, a4, a5, a6, a7, a8, a9, a10, a11, a12, a13, a14, a15) o := by
  unfold wpX_kind
  exact qb_obN h (br_t rfl hp)
theorem qb_kindY {P : Int32 → Prop} {j : Nat} (h1 : 1 ≤ j) (h2 : j ≤ 8) (hp : P (a1 j)) : wpX_kind P (hn, hf, ln, ll, rv, sl, ap, wl, ts, fr, fs, iu, a1, a2, a3, a4, a5, a6, a7, a8, a9, a10, a11, a12, a13, a14, a15) (nI j) := by
  unfold wpX_kind
  dsimp only
  rw [nI_clamp (by omega)]
  exact qb_obY h1 h2 (br_f (by decide) ⟨vp_in_nI (by omega) (by omega), hp⟩)
theorem qb_sizeN {P : Int32 → Prop} {o : Int32} (h : qb_bd o) (hp : P (-1)) : wpX_size P (hn, hf, ln, ll, rv, sl, ap, wl, ts, fr, fs, iu, a1, a2, a3, a4, a5, a6, a7, a8, a9, a10, a11, a12, a13, a14, a15) o := by
  unfold wpX_size
  exact qb_obN h (br_t rfl hp)
theorem qb_sizeY {P : Int32 → Prop} {j : Nat} (h1 : 1 ≤ j) (h2 : j ≤ 8) (hp : P (a2 j)) : wpX_size P (hn, hf, ln, ll, rv, sl, ap, wl, ts, fr, fs, iu, a1, a2, a3, a4, a5, a6, a7, a8, a9, a10, a11, a12, a13, a14, a15) (nI j) := by
  unfold wpX_size
  dsimp only
  rw [nI_clamp (by omega)]
  exact qb_obY h1 h2 (br_f (by decide) ⟨vp_in_nI (by omega) (by omega), hp⟩)
theorem qb_hasN {P : Int32 → Prop} {o x : Int32} (h : qb_bd o) (hp : P 0) : wpX_hasValue P (hn, hf, ln, ll, rv, sl, ap, wl, ts, fr, fs, iu, a1, a2, a3, a4, a5, a6, a7, a8, a9, a10, a11, a12, a13, a14, a15) o x := by
  unfold wpX_hasValue
  exact qb_obN h (br_t rfl hp)
theorem qb_hasZ {P : Int32 → Prop} {j : Nat} {x : Int32} (h1 : 1 ≤ j) (h2 : j ≤ 8) (h0 : a2 j = 0) (hp : P 0) : wpX_hasValue P (hn, hf, ln, ll, rv, sl, ap, wl, ts, fr, fs, iu, a1, a2, a3, a4, a5, a6, a7, a8, a9, a10, a11, a12, a13, a14, a15) (nI j) x := by
  unfold wpX_hasValue
  dsimp only
  rw [nI_clamp (by omega), h0]
  refine qb_obY h1 h2 (br_f (by decide) (br_c (fun _ => hp) (fun c => ⟨vp_in_nI (by omega) (by omega), br_t ?_ hp⟩)))
  rw [Int32.le_iff_toInt_le]
  rw [Int32.lt_iff_toInt_lt] at c
  omega
theorem qb_has1 {P : Int32 → Prop} {j : Nat} (h1 : 1 ≤ j) (h2 : j ≤ 8) (h0 : a2 j = nI 1) (hp : P 1) : wpX_hasValue P (hn, hf, ln, ll, rv, sl, ap, wl, ts, fr, fs, iu, a1, a2, a3, a4, a5, a6, a7, a8, a9, a10, a11, a12, a13, a14, a15) (nI j) 0 := by
  unfold wpX_hasValue
  dsimp only
  rw [nI_clamp (by omega), h0]
  exact qb_obY h1 h2 (br_f (by decide) (br_f (by decide) ⟨vp_in_nI (by omega) (by omega), br_f (by decide) hp⟩))
theorem qb_valN {P : Int32 → Prop} {o x : Int32} (h : qb_bd o) (hp : P 0) : wpX_value P (hn, hf, ln, ll, rv, sl, ap, wl, ts, fr, fs, iu, a1, a2, a3, a4, a5, a6, a7, a8, a9, a10, a11, a12, a13, a14, a15) o x := by
  unfold wpX_value
  exact qb_hasN h (br_t rfl hp)
theorem qb_valZ {P : Int32 → Prop} {j : Nat} {x : Int32} (h1 : 1 ≤ j) (h2 : j ≤ 8) (h0 : a2 j = 0) (hp : P 0) : wpX_value P (hn, hf, ln, ll, rv, sl, ap, wl, ts, fr, fs, iu, a1, a2, a3, a4, a5, a6, a7, a8, a9, a10, a11, a12, a13, a14, a15) (nI j) x := by
  unfold wpX_value
  exact qb_hasZ h1 h2 h0 (br_t rfl hp)
theorem qb_i60 (j : Nat) : 6 * nI j + 0 = nI (6 * j) := qb_i6 j 0
theorem qb_val1 {P : Int32 → Prop} {j : Nat} (h1 : 1 ≤ j) (h2 : j ≤ 8) (h0 : a2 j = nI 1) (hp : P (a3 (6 * j))) : wpX_value P (hn, hf, ln, ll, rv, sl, ap, wl, ts, fr, fs, iu, a1, a2, a3, a4, a5, a6, a7, a8, a9, a10, a11, a12, a13, a14, a15) (nI j) 0 := by
  unfold wpX_value
  dsimp only
  rw [qb_i60, nI_clamp (by omega)]
  exact qb_has1 h1 h2 h0 (br_f (by decide) ⟨vp_in_nI (by omega) (by omega), hp⟩)
theorem qb_vkN {P : Int32 → Prop} {o x : Int32} (h : qb_bd o) (hp : P (-1)) : wpX_valueKind P (hn, hf, ln, ll, rv, sl, ap, wl, ts, fr, fs, iu, a1, a2, a3, a4, a5, a6, a7, a8, a9, a10, a11, a12, a13, a14, a15) o x := by
  unfold wpX_valueKind
  exact qb_obN h (br_t rfl hp)
theorem qb_vkZ {P : Int32 → Prop} {j : Nat} {x : Int32} (h1 : 1 ≤ j) (h2 : j ≤ 8) (h0 : a2 j = 0) (hp : P (-2)) : wpX_valueKind P (hn, hf, ln, ll, rv, sl, ap, wl, ts, fr, fs, iu, a1, a2, a3, a4, a5, a6, a7, a8, a9, a10, a11, a12, a13, a14, a15) (nI j) x := by
  unfold wpX_valueKind
  exact qb_obY h1 h2 (br_f (by decide) (qb_hasZ h1 h2 h0 (br_t rfl hp)))
theorem qb_vk1 {P : Int32 → Prop} {j : Nat} (h1 : 1 ≤ j) (h2 : j ≤ 8) (h0 : a2 j = nI 1) (hp : P (a4 (6 * j))) : wpX_valueKind P (hn, hf, ln, ll, rv, sl, ap, wl, ts, fr, fs, iu, a1, a2, a3, a4, a5, a6, a7, a8, a9, a10, a11, a12, a13, a14, a15) (nI j) 0 := by
  unfold wpX_valueKind
  dsimp only
  rw [qb_i60, nI_clamp (by omega)]
  exact qb_obY h1 h2 (br_f (by decide) (qb_has1 h1 h2 h0 (br_f (by decide) ⟨vp_in_nI (by omega) (by omega), hp⟩)))
theorem qb_keyN {P : Int32 → Prop} {o x : Int32} (h : qb_bd o) (hp : P (-1)) : wpX_key P (hn, hf, ln, ll, rv, sl, ap, wl, ts, fr, fs, iu, a1, a2, a3, a4, a5, a6, a7, a8, a9, a10, a11, a12, a13, a14, a15) o x := by
  unfold wpX_key
  exact qb_obN h (br_t rfl hp)
theorem qb_keyZ {P : Int32 → Prop} {j : Nat} {x : Int32} (h1 : 1 ≤ j) (h2 : j ≤ 8) (h0 : a1 j = 0) (hp : P (-2)) : wpX_key P (hn, hf, ln, ll, rv, sl, ap, wl, ts, fr, fs, iu, a1, a2, a3, a4, a5, a6, a7, a8, a9, a10, a11, a12, a13, a14, a15) (nI j) x := by
  unfold wpX_key
  dsimp only
  rw [nI_clamp (by omega), h0]
  exact qb_obY h1 h2 (br_f (by decide) ⟨vp_in_nI (by omega) (by omega), br_f (by decide) hp⟩)
theorem qb_resN {P : Int32 → Prop} {o : Int32} (h : qb_bd o) (hp : P (-1)) : wpX_resolve P (hn, hf, ln, ll, rv, sl, ap, wl, ts, fr, fs, iu, a1, a2, a3, a4, a5, a6, a7, a8, a9, a10, a11, a12, a13, a14, a15) o := by
  unfold wpX_resolve
  exact qb_obN h (br_t rfl hp)
theorem qb_resZ {P : Int32 → Prop} {j : Nat} (h1 : 1 ≤ j) (h2 : j ≤ 8) (h0 : a1 j = 0) (hp : P (-2)) : wpX_resolve P (hn, hf, ln, ll, rv, sl, ap, wl, ts, fr, fs, iu, a1, a2, a3, a4, a5, a6, a7, a8, a9, a10, a11, a12, a13, a14, a15) (nI j) := by
  unfold wpX_resolve
  dsimp only
  refine qb_obY h1 h2 (br_f (by decide) ⟨1, br_f (by decide) ⟨vp_in_nI (by omega) (by omega), ?_⟩⟩)
  rw [nI_clamp (by omega), h0]
  exact br_f (by decide) ⟨vp_in_nI (by omega) (by omega), br_t rfl hp⟩
theorem qb_res1 {P : Int32 → Prop} {j : Nat} (h1 : 1 ≤ j) (h2 : j ≤ 8) (h0 : a1 j = 1) (hp : P (nI j)) : wpX_resolve P (hn, hf, ln, ll, rv, sl, ap, wl, ts, fr, fs, iu, a1, a2, a3, a4, a5, a6, a7, a8, a9, a10, a11, a12, a13, a14, a15) (nI j) := by
  unfold wpX_resolve
  dsimp only
  refine qb_obY h1 h2 (br_f (by decide) ⟨1, br_f (by decide) ⟨vp_in_nI (by omega) (by omega), ?_⟩⟩)
  rw [nI_clamp (by omega), h0]
  exact br_f (by decide) ⟨vp_in_nI (by omega) (by omega), br_f (by decide) hp⟩
theorem qb_i6' (j : Nat) : 6 * nI j = nI (6 * j) := by
  rw [show (6 : Int32) = nI 6 from rfl, pk_mul]
theorem qb_resL {P : Int32 → Prop} {j t : Nat} (h1 : 1 ≤ j) (h2 : j ≤ 8) (t1 : 1 ≤ t) (t2 : t ≤ 8) (h0 : a1 j = 5) (hv : a3 (6 * j) = nI t) (ht : t = j ∨ a1 t = 0) (hp : P (-2)) : wpX_resolve P (hn, hf, ln, ll, rv, sl, ap, wl, ts, fr, fs, iu, a1, a2, a3, a4, a5, a6, a7, a8, a9, a10, a11, a12, a13, a14, a15) (nI j) := by
  unfold wpX_resolve
  dsimp only
  refine qb_obY h1 h2 (br_f (by decide) ?_)
  rcases ht with ht | ht
  · subst ht
    refine pk_loop (σ := Unit) (fun n i _ => wX_resolve_13 P hn hf ln ll rv sl ap wl ts fr fs iu a1 a2 a3 a4 a5 a6 a7 a8 a9 a10 a11 a12 a13 a14 a15 n (nI t) (nI i)) (fun _ _ => True) 9 0 () (by omega) trivial (fun n _ _ => pk_lt 8 9 (fun _ => hp) (fun c => absurd c (by omega))) (fun n i _ hi _ hw => ?_)
    refine pk_lt 8 i (fun c => absurd c (by omega)) (fun _ => ⟨vp_in_nI (by omega) (by omega), ?_⟩)
    rw [nI_clamp (show t < 2 ^ 31 by omega), h0, qb_i6', nI_clamp (by omega), hv]
    exact br_t rfl ⟨vp_in_nI (by omega) (by omega), nm_e (nm_r (nI_1 i) (hw () trivial))⟩
  · refine ⟨2, br_f (by decide) ⟨vp_in_nI (by omega) (by omega), ?_⟩⟩
    rw [nI_clamp (show j < 2 ^ 31 by omega), h0, qb_i6', nI_clamp (by omega), hv]
    refine br_t rfl ⟨vp_in_nI (by omega) (by omega), nm_e (nm_r (e' := nI 1) (by decide) (br_f (by decide) ⟨vp_in_nI (by omega) (by omega), ?_⟩))⟩
    rw [nI_clamp (show t < 2 ^ 31 by omega), ht]
    exact br_f (by decide) ⟨vp_in_nI (by omega) (by omega), br_t rfl hp⟩
theorem qb_lksN {P : Int32 → Prop} {o : Int32} (h : qb_bd o) (hp : P (-1)) : wpX_links P (hn, hf, ln, ll, rv, sl, ap, wl, ts, fr, fs, iu, a1, a2, a3, a4, a5, a6, a7, a8, a9, a10, a11, a12, a13, a14, a15) o := by
  unfold wpX_links
  exact qb_obN h (br_t rfl hp)
theorem qb_lks {P : Int32 → Prop} {t j n : Nat} {K v k : Int32} (h1 : 1 ≤ t) (h2 : t ≤ 8) (hj1 : 1 ≤ j) (hj2 : j ≤ 8) (hn1 : n ≤ 1) (ho : qb_ob j K n v k a1 a2 a3 a4) (hp : P (if n = 1 ∧ k = 2 ∧ v = nI t then 1 else 0)) : wpX_links P (hn, hf, ln, ll, rv, sl, ap, wl, ts, fr, fs, iu, a1, a2, a3, a4, a5, a6, a7, a8, a9, a10, a11, a12, a13, a14, a15) (nI t) := by
  obtain ⟨o1, o2, o3⟩ := ho
  unfold wpX_links
  dsimp only
  refine qb_obY h1 h2 (br_f (by decide) ?_)
  refine pk_loop (fun m i (s : Int32) => wX_links_13 P (nI t) hn hf ln ll rv sl ap wl ts fr fs iu a1 a2 a3 a4 a5 a6 a7 a8 a9 a10 a11 a12 a13 a14 a15 m s (nI i)) (fun i s => 1 ≤ i ∧ s = if j < i then (if n = 1 ∧ k = 2 ∧ v = nI t then 1 else 0) else 0) 9 1 0 (by omega) ⟨by omega, by rw [if_neg (by omega)]⟩ ?_ ?_
  · rintro m s ⟨_, hs⟩
    rw [if_pos (by omega)] at hs
    rw [hs]
    exact pk_lt 8 9 (fun _ => hp) (fun c => absurd c (by omega))
  · rintro m i s hi ⟨g1, hs⟩ hw
    refine pk_lt 8 i (fun c => absurd c (by omega)) (fun _ => nm_r (qb_i6' i) ?_)
    have e2 := o2 i g1 (by omega)
    by_cases hij : i = j
    · subst hij
      rw [if_pos rfl] at e2
      rw [if_neg (by omega)] at hs
      have C : n = 0 ∨ n = 1 := by omega
      rcases C with hn0 | hn0
      · subst hn0
        refine ⟨1, vp_in_nI (by omega) (by omega), ?_⟩
        rw [nI_clamp (show i < 2 ^ 31 by omega), e2, qb_i6]
        refine br_t (nI_le (by omega) (by omega)) (nm_r (nI_1 i) (hw _ ⟨by omega, ?_⟩))
        rw [if_pos (by omega), if_neg (fun c => absurd c.1 (by omega)), hs]
      · subst hn0
        obtain ⟨v1, v2⟩ := o3 rfl
        have E : ∀ s', s' = (if (1 : Nat) = 1 ∧ k = 2 ∧ v = nI t then (1 : Int32) else 0) → wX_links_25 P (wX_links_13 P (nI t) hn hf ln ll rv sl ap wl ts fr fs iu a1 a2 a3 a4 a5 a6 a7 a8 a9 a10 a11 a12 a13 a14 a15 m) (nI t) (nI i) hn hf ln ll rv sl ap wl ts fr fs iu a1 a2 a3 a4 a5 a6 a7 a8 a9 a10 a11 a12 a13 a14 a15 1 s' (nI (6 * i + 1)) := by
          intro s' hs'
          refine ⟨vp_in_nI (by omega) (by omega), ?_⟩
          rw [nI_clamp (show i < 2 ^ 31 by omega), e2, qb_i6]
          refine br_t (nI_le (by omega) (by omega)) (nm_r (nI_1 i) (hw _ ⟨by omega, ?_⟩))
          rw [if_pos (by omega), hs']
        refine ⟨2, vp_in_nI (by omega) (by omega), ?_⟩
        rw [nI_clamp (show i < 2 ^ 31 by omega), e2, qb_i6, nI_clamp (show 6 * i < 2 ^ 31 by omega), v1, v2]
        refine br_f (nI_ge (by omega) (by omega)) ⟨vp_in_nI (by omega) (by omega), br_c (fun q1 => ⟨vp_in_nI (by omega) (by omega), br_c (fun q2 => nm_e (nm_r (nI_1 _) (E _ ?_))) (fun q2 => nm_e (nm_r (nI_1 _) (E _ ?_)))⟩) (fun q1 => nm_e (nm_r (nI_1 _) (E _ ?_)))⟩
        · rw [if_pos ⟨rfl, q1, q2⟩, hs]
          decide
        · rw [if_neg (fun c => q2 c.2.2), hs]
          decide
        · rw [if_neg (fun c => q1 c.2.1), hs]
          decide
    · rw [if_neg hij] at e2
      refine ⟨1, vp_in_nI (by omega) (by omega), ?_⟩
      rw [nI_clamp (show i < 2 ^ 31 by omega), e2, qb_i60]
      refine br_t (nI_le (by omega) (by omega)) (nm_r (nI_1 i) (hw _ ⟨by omega, ?_⟩))
      rw [hs]
      by_cases q : j < i
      · rw [if_pos q, if_pos (show j < i + 1 by omega)]
      · rw [if_neg q, if_neg (show ¬ j < i + 1 by omega)]
end
end
section
section
variable {hn hf ln ll rv sl ap wl ts fr fs iu : Int32} {a1 a2 a3 a4 a5 a6 a7 a8 a9 a10 a11 a12 a13 a14 a15 : Nat → Int32} {post : Int32 → St2 → Prop}
theorem qb_appB {o x : Int32} (h : qb_bd o ∨ x < 0 ∨ ¬ x ≤ 255) (hb : ¬ qb_bd o → ∃ j, 1 ≤ j ∧ j ≤ 8 ∧ o = nI j) (hp : post (-1) (hn, hf, ln, ll, rv, sl, ap, wl, ts, fr, fs, iu, a1, a2, a3, a4, a5, a6, a7, a8, a9, a10, a11, a12, a13, a14, a15)) : wpX_append post (hn, hf, ln, ll, rv, sl, ap, wl, ts, fr, fs, iu, a1, a2, a3, a4, a5, a6, a7, a8, a9, a10, a11, a12, a13, a14, a15) o x := by
  unfold wpX_append
  dsimp only
  by_cases hbd : qb_bd o
  · exact qb_obN hbd (br_t rfl hp)
  · obtain ⟨j, h1, h2, e⟩ := hb hbd
    rw [e]
    refine qb_obY h1 h2 (br_f (by decide) (br_c (fun _ => hp) (fun c => br_f ?_ hp)))
    rcases h with h | h | h
    · exact absurd h hbd
    · exact absurd h c
    · exact h
theorem qb_appN {j : Nat} {x : Int32} (h1 : 1 ≤ j) (h2 : j ≤ 8) (h0 : a1 j = 0) (hx : ¬ x < 0) (hx2 : x ≤ 255) (hp : post (-2) (hn, hf, ln, ll, rv, sl, ap, wl, ts, fr, fs, iu, a1, a2, a3, a4, a5, a6, a7, a8, a9, a10, a11, a12, a13, a14, a15)) : wpX_append post (hn, hf, ln, ll, rv, sl, ap, wl, ts, fr, fs, iu, a1, a2, a3, a4, a5, a6, a7, a8, a9, a10, a11, a12, a13, a14, a15) (nI j) x := by
  unfold wpX_append
  dsimp only
  rw [nI_clamp (by omega), h0]
  exact qb_obY h1 h2 (br_f (by decide) (br_f hx (br_t hx2 ⟨vp_in_nI (by omega) (by omega), br_f (by decide) hp⟩)))
theorem qb_popB {o : Int32} (h : qb_bd o) (hp : post (-1) (hn, hf, ln, ll, rv, sl, ap, wl, ts, fr, fs, iu, a1, a2, a3, a4, a5, a6, a7, a8, a9, a10, a11, a12, a13, a14, a15)) : wpX_pop post (hn, hf, ln, ll, rv, sl, ap, wl, ts, fr, fs, iu, a1, a2, a3, a4, a5, a6, a7, a8, a9, a10, a11, a12, a13, a14, a15) o := by
  unfold wpX_pop
  dsimp only
  exact qb_obN h (br_t rfl hp)
theorem qb_popN {j : Nat} (h1 : 1 ≤ j) (h2 : j ≤ 8) (h0 : a2 j = 0) (hp : post (-2) (hn, hf, ln, ll, rv, sl, ap, wl, ts, fr, fs, iu, a1, a2, a3, a4, a5, a6, a7, a8, a9, a10, a11, a12, a13, a14, a15)) : wpX_pop post (hn, hf, ln, ll, rv, sl, ap, wl, ts, fr, fs, iu, a1, a2, a3, a4, a5, a6, a7, a8, a9, a10, a11, a12, a13, a14, a15) (nI j) := by
  unfold wpX_pop
  dsimp only
  rw [nI_clamp (by omega), h0]
  exact qb_obY h1 h2 (br_f (by decide) ⟨vp_in_nI (by omega) (by omega), br_c (fun _ => hp) (fun _ => ⟨vp_in_nI (by omega) (by omega), br_c (fun _ => hp) (fun _ => ⟨vp_in_nI (by omega) (by omega), br_t rfl hp⟩)⟩)⟩)
theorem qb_remB {o : Int32} (h : qb_bd o) (hp : post (-1) (hn, hf, ln, ll, rv, sl, ap, wl, ts, fr, fs, iu, a1, a2, a3, a4, a5, a6, a7, a8, a9, a10, a11, a12, a13, a14, a15)) : wpX_remove post (hn, hf, ln, ll, rv, sl, ap, wl, ts, fr, fs, iu, a1, a2, a3, a4, a5, a6, a7, a8, a9, a10, a11, a12, a13, a14, a15) o := by
  unfold wpX_remove
  dsimp only
  exact qb_obN h (br_t rfl hp)
theorem qb_remY {j : Nat} (h1 : 1 ≤ j) (h2 : j ≤ 8) (hp : post (a1 j) (hn, hf, ln, ll, rv, sl, ap, wl, ts, fr, fs, iu, upd a1 j 0, upd a2 j 0, a3, a4, a5, upd a6 j 1, a7, a8, a9, a10, a11, a12, a13, a14, a15)) : wpX_remove post (hn, hf, ln, ll, rv, sl, ap, wl, ts, fr, fs, iu, a1, a2, a3, a4, a5, a6, a7, a8, a9, a10, a11, a12, a13, a14, a15) (nI j) := by
  unfold wpX_remove
  dsimp only
  exact qb_obY h1 h2 (br_f (by decide) (qb_bec (by omega) hp))
theorem qb_ob_rem {j n : Nat} {K v k : Int32} (ho : qb_ob j K n v k a1 a2 a3 a4) : qb_ob j 0 0 v k (upd a1 j 0) (upd a2 j 0) a3 a4 := by
  obtain ⟨o1, o2, o3⟩ := ho
  refine qb_ob_z (fun i h1 h2 => ?_)
  by_cases e : i = j
  · rw [e, pk_us, pk_us]
    exact ⟨rfl, rfl⟩
  · rw [pk_un e, pk_un e, o1 i h1 h2, o2 i h1 h2, if_neg e, if_neg e]
    exact ⟨rfl, rfl⟩
theorem qb_ob_bec {j n : Nat} {K v k x : Int32} (ho : qb_ob j K n v k a1 a2 a3 a4) : qb_ob j x 0 v k (upd a1 j x) (upd a2 j 0) a3 a4 := by
  obtain ⟨o1, o2, o3⟩ := ho
  refine ⟨fun i h1 h2 => ?_, fun i h1 h2 => ?_, fun e => absurd e (by omega)⟩
  · by_cases e : i = j
    · rw [e, pk_us, if_pos rfl]
    · rw [pk_un e, o1 i h1 h2, if_neg e, if_neg e]
  · by_cases e : i = j
    · rw [e, pk_us, if_pos rfl]
      rfl
    · rw [pk_un e, o2 i h1 h2, if_neg e, if_neg e]
theorem qb_ob_set {j n : Nat} {K v k x y w : Int32} (ho : qb_ob j K n v k a1 a2 a3 a4) : qb_ob j x 1 w y (upd a1 j x) (upd (upd a2 j 0) j (nI (0 + 1))) (upd a3 (6 * j + 0) w) (upd a4 (6 * j + 0) y) := by
  obtain ⟨o1, o2, o3⟩ := ho
  refine ⟨fun i h1 h2 => ?_, fun i h1 h2 => ?_, fun _ => ⟨pk_us, pk_us⟩⟩
  · by_cases e : i = j
    · rw [e, pk_us, if_pos rfl]
    · rw [pk_un e, o1 i h1 h2, if_neg e, if_neg e]
  · by_cases e : i = j
    · rw [e, pk_us, if_pos rfl]
    · rw [pk_un e, pk_un e, o2 i h1 h2, if_neg e, if_neg e]
theorem qb_snB {o x : Int32} (h : qb_bd o) (hp : post (-1) (hn, hf, ln, ll, rv, sl, ap, wl, ts, fr, fs, iu, a1, a2, a3, a4, a5, a6, a7, a8, a9, a10, a11, a12, a13, a14, a15)) : wpX_setNumber post (hn, hf, ln, ll, rv, sl, ap, wl, ts, fr, fs, iu, a1, a2, a3, a4, a5, a6, a7, a8, a9, a10, a11, a12, a13, a14, a15) o x := by
  unfold wpX_setNumber
  dsimp only
  exact qb_obN h (br_t rfl hp)
theorem qb_snY {j n : Nat} {K v k x : Int32} (h1 : 1 ≤ j) (h2 : j ≤ 8) (ho : qb_ob j K n v k a1 a2 a3 a4) (hp : ∀ b1 b2 b3 b4 b5 b6, qb_ob j 1 1 x 0 b1 b2 b3 b4 → post K (hn, hf, ln, ll, rv, sl, ap, wl, ts, fr, fs, iu, b1, b2, b3, b4, b5, b6, a7, a8, a9, a10, a11, a12, a13, a14, a15)) : wpX_setNumber post (hn, hf, ln, ll, rv, sl, ap, wl, ts, fr, fs, iu, a1, a2, a3, a4, a5, a6, a7, a8, a9, a10, a11, a12, a13, a14, a15) (nI j) x := by
  have e := ho.1 j h1 h2
  rw [if_pos rfl] at e
  unfold wpX_setNumber
  dsimp only
  refine qb_obY h1 h2 (br_f (by decide) (qb_bec (by omega) ?_))
  dsimp only
  refine qb_addv (s := 0) (by omega) pk_us (by omega) ?_
  dsimp only
  rw [e]
  exact hp _ _ _ _ _ _ (qb_ob_set ho)
theorem qb_slB {o t : Int32} (h : qb_bd o ∨ qb_bd t) (hb : ¬ qb_bd o → ∃ j, 1 ≤ j ∧ j ≤ 8 ∧ o = nI j) (hp : post (-1) (hn, hf, ln, ll, rv, sl, ap, wl, ts, fr, fs, iu, a1, a2, a3, a4, a5, a6, a7, a8, a9, a10, a11, a12, a13, a14, a15)) : wpX_setLink post (hn, hf, ln, ll, rv, sl, ap, wl, ts, fr, fs, iu, a1, a2, a3, a4, a5, a6, a7, a8, a9, a10, a11, a12, a13, a14, a15) o t := by
  unfold wpX_setLink
  dsimp only
  by_cases hbd : qb_bd o
  · exact qb_obN hbd (br_t rfl hp)
  · obtain ⟨j, h1, h2, e⟩ := hb hbd
    rw [e]
    refine qb_obY h1 h2 (br_f (by decide) (qb_obN ?_ (br_t rfl hp)))
    rcases h with h | h
    · exact absurd h hbd
    · exact h
theorem qb_slY {j n t : Nat} {K v k : Int32} (h1 : 1 ≤ j) (h2 : j ≤ 8) (t1 : 1 ≤ t) (t2 : t ≤ 8) (ho : qb_ob j K n v k a1 a2 a3 a4) (hp : ∀ b1 b2 b3 b4 b5 b6, qb_ob j 5 1 (nI t) 2 b1 b2 b3 b4 → post K (hn, hf, ln, ll, rv, sl, ap, wl, ts, fr, fs, iu, b1, b2, b3, b4, b5, b6, a7, a8, a9, a10, a11, a12, a13, a14, a15)) : wpX_setLink post (hn, hf, ln, ll, rv, sl, ap, wl, ts, fr, fs, iu, a1, a2, a3, a4, a5, a6, a7, a8, a9, a10, a11, a12, a13, a14, a15) (nI j) (nI t) := by
  have e := ho.1 j h1 h2
  rw [if_pos rfl] at e
  unfold wpX_setLink
  dsimp only
  refine qb_obY h1 h2 (br_f (by decide) (qb_obY t1 t2 (br_f (by decide) (qb_bec (by omega) ?_))))
  dsimp only
  refine qb_addv (s := 0) (by omega) pk_us (by omega) ?_
  dsimp only
  rw [e]
  exact hp _ _ _ _ _ _ (qb_ob_set ho)
theorem qb_begB {o x : Int32} (h : qb_bd o ∨ x < 2 ∨ 4 < x) (hb : ¬ qb_bd o → ∃ j, 1 ≤ j ∧ j ≤ 8 ∧ o = nI j) (hp : post (-1) (hn, hf, ln, ll, rv, sl, ap, wl, ts, fr, fs, iu, a1, a2, a3, a4, a5, a6, a7, a8, a9, a10, a11, a12, a13, a14, a15)) : wpX_begin post (hn, hf, ln, ll, rv, sl, ap, wl, ts, fr, fs, iu, a1, a2, a3, a4, a5, a6, a7, a8, a9, a10, a11, a12, a13, a14, a15) o x := by
  unfold wpX_begin
  dsimp only
  by_cases hbd : qb_bd o
  · exact qb_obN hbd (br_t rfl hp)
  · obtain ⟨j, h1, h2, e⟩ := hb hbd
    rw [e]
    refine qb_obY h1 h2 (br_f (by decide) (br_c (fun _ => hp) (fun c => br_t ?_ hp)))
    rcases h with h | h | h
    · exact absurd h hbd
    · exact absurd h c
    · exact h
theorem qb_begY {j n : Nat} {K v k x : Int32} (h1 : 1 ≤ j) (h2 : j ≤ 8) (x1 : ¬ x < 2) (x2 : ¬ 4 < x) (ho : qb_ob j K n v k a1 a2 a3 a4) (hp : ∀ b1 b2 b6, qb_ob j x 0 v k b1 b2 a3 a4 → post K (hn, hf, ln, ll, rv, sl, ap, wl, ts, fr, fs, iu, b1, b2, a3, a4, a5, b6, a7, a8, a9, a10, a11, a12, a13, a14, a15)) : wpX_begin post (hn, hf, ln, ll, rv, sl, ap, wl, ts, fr, fs, iu, a1, a2, a3, a4, a5, a6, a7, a8, a9, a10, a11, a12, a13, a14, a15) (nI j) x := by
  have e := ho.1 j h1 h2
  rw [if_pos rfl] at e
  unfold wpX_begin
  dsimp only
  refine qb_obY h1 h2 (br_f (by decide) (br_f x1 (br_f x2 (qb_bec (by omega) ?_))))
  dsimp only
  rw [e]
  exact hp _ _ _ (qb_ob_bec ho)
/-- an item of a list -/
def qb_it (x y : Int32) : Prop := x = 0 ∨ (x = 1 ∧ ¬ y < 0 ∧ ¬ 63 < y) ∨ (x = 2 ∧ ¬ qb_bd y)
theorem qb_bd_of {y : Int32} (h : ¬ qb_bd y) : ∃ j, 1 ≤ j ∧ j ≤ 8 ∧ y = nI j := by
  have h1 : ¬ y < 1 := fun c => h (Or.inl c)
  have h2 : ¬ 8 < y := fun c => h (Or.inr c)
  rw [Int32.lt_iff_toInt_lt] at h1 h2
  have e1 : (1 : Int32).toInt = 1 := by decide
  have e8 : (8 : Int32).toInt = 8 := by decide
  rw [e1] at h1
  rw [e8] at h2
  refine ⟨y.toInt.toNat, by omega, by omega, ?_⟩
  apply Int32.toInt_inj.mp
  rw [nI_toInt (by omega)]
  omega
theorem qb_bd_no {j : Nat} (h1 : 1 ≤ j) (h2 : j ≤ 8) : ¬ qb_bd (nI j) := by
  rintro (h | h)
  · rw [show (1 : Int32) = nI 1 from rfl, nI_ltI (by omega) (by omega)] at h
    omega
  · rw [show (8 : Int32) = nI 8 from rfl, nI_ltI (by omega) (by omega)] at h
    omega
theorem qb_itY {P : Int32 → Prop} {x y : Int32} (h : qb_it x y) (hp : P 1) : wpX_isItem P () x y := by
  unfold wpX_isItem
  rcases h with h | ⟨h, g1, g2⟩ | ⟨h, g⟩
  · rw [h]
    exact br_f (by decide) (br_t rfl hp)
  · rw [h]
    exact br_t rfl (br_f g1 (br_f g2 hp))
  · obtain ⟨j, h1, h2, e⟩ := qb_bd_of g
    rw [h, e]
    exact br_f (by decide) (br_f (by decide) (br_t rfl (qb_obY h1 h2 (br_f (by decide) hp))))
theorem qb_itN {P : Int32 → Prop} {x y : Int32} (h : ¬ qb_it x y) (hp : P 0) : wpX_isItem P () x y := by
  unfold wpX_isItem
  refine br_c (fun c => br_c (fun _ => hp) (fun g1 => br_c (fun _ => hp) (fun g2 => absurd (Or.inr (Or.inl ⟨c, g1, g2⟩)) h))) (fun _ => br_f (fun c => h (Or.inl c)) (br_c (fun c => ?_) (fun _ => hp)))
  by_cases g : qb_bd y
  · exact qb_obN g (br_t rfl hp)
  · exact absurd (Or.inr (Or.inr ⟨c, g⟩)) h
theorem qb_pushB {o x y : Int32} (h : qb_bd o ∨ ¬ qb_it x y) (hp : post (-1) (hn, hf, ln, ll, rv, sl, ap, wl, ts, fr, fs, iu, a1, a2, a3, a4, a5, a6, a7, a8, a9, a10, a11, a12, a13, a14, a15)) : wpX_push post (hn, hf, ln, ll, rv, sl, ap, wl, ts, fr, fs, iu, a1, a2, a3, a4, a5, a6, a7, a8, a9, a10, a11, a12, a13, a14, a15) o x y := by
  unfold wpX_push
  dsimp only
  by_cases hbd : qb_bd o
  · exact qb_obN hbd (br_t rfl hp)
  · obtain ⟨j, h1, h2, e⟩ := qb_bd_of hbd
    rw [e]
    refine qb_obY h1 h2 (br_f (by decide) (br_c (fun _ => hp) (fun _ => br_c (fun _ => hp) (fun _ => qb_itN ?_ (br_t rfl hp)))))
    rcases h with h | h
    · exact absurd h hbd
    · exact h
theorem qb_pushN {j : Nat} {x y : Int32} (h1 : 1 ≤ j) (h2 : j ≤ 8) (h0 : a1 j = 0) (h : qb_it x y) (hp : post (-2) (hn, hf, ln, ll, rv, sl, ap, wl, ts, fr, fs, iu, a1, a2, a3, a4, a5, a6, a7, a8, a9, a10, a11, a12, a13, a14, a15)) : wpX_push post (hn, hf, ln, ll, rv, sl, ap, wl, ts, fr, fs, iu, a1, a2, a3, a4, a5, a6, a7, a8, a9, a10, a11, a12, a13, a14, a15) (nI j) x y := by
  have hx : ¬ x < 0 ∧ ¬ 2 < x := by
    rcases h with h | ⟨h, _, _⟩ | ⟨h, _⟩ <;> rw [h] <;> decide
  unfold wpX_push
  dsimp only
  rw [nI_clamp (by omega), h0]
  exact qb_obY h1 h2 (br_f (by decide) (br_f hx.1 (br_f hx.2 (qb_itY h (br_f (by decide) ⟨vp_in_nI (by omega) (by omega), br_f (by decide) hp⟩)))))
/-- what put takes: code, value -/
def qb_pu (x y : Int32) : Prop := ¬ qb_bd (x >>> ((6 : Int32) &&& 31)) ∧ qb_it (if x &&& 1 = 1 then 2 else 0) y
theorem qb_putB {x y : Int32} (h : ¬ qb_pu x y) (hp : post (-1) (hn, hf, ln, ll, rv, sl, ap, wl, ts, fr, fs, iu, a1, a2, a3, a4, a5, a6, a7, a8, a9, a10, a11, a12, a13, a14, a15)) : wpX_put post (hn, hf, ln, ll, rv, sl, ap, wl, ts, fr, fs, iu, a1, a2, a3, a4, a5, a6, a7, a8, a9, a10, a11, a12, a13, a14, a15) x y := by
  unfold wpX_put
  dsimp only
  have G : ∀ x4 z0, ¬ (¬ qb_bd (x >>> ((6 : Int32) &&& 31)) ∧ qb_it z0 y) → wX_put_25 post y (x >>> ((6 : Int32) &&& 31)) x4 z0 hn hf ln ll rv sl ap wl ts fr fs iu a1 a2 a3 a4 a5 a6 a7 a8 a9 a10 a11 a12 a13 a14 a15 := by
    intro x4 z0 hc
    unfold wX_put_25
    by_cases hbd : qb_bd (x >>> ((6 : Int32) &&& 31))
    · exact qb_obN hbd (br_t rfl hp)
    · obtain ⟨j, h1, h2, e⟩ := qb_bd_of hbd
      have hi : ¬ qb_it z0 y := fun c => hc ⟨hbd, c⟩
      rw [e]
      exact qb_obY h1 h2 (br_f (by decide) (qb_itN hi (br_t rfl hp)))
  refine nm_e (nm_e (br_c (fun c => G _ _ ?_) (fun c => G _ _ ?_)))
  · unfold qb_pu at h
    rw [if_pos c] at h
    exact h
  · unfold qb_pu at h
    rw [if_neg c] at h
    exact h
theorem qb_putN {x y : Int32} (h0 : ∀ i, 1 ≤ i → i ≤ 8 → a1 i = 0) (h : qb_pu x y) (hp : post (-2) (hn, hf, ln, ll, rv, sl, ap, wl, ts, fr, fs, iu, a1, a2, a3, a4, a5, a6, a7, a8, a9, a10, a11, a12, a13, a14, a15)) : wpX_put post (hn, hf, ln, ll, rv, sl, ap, wl, ts, fr, fs, iu, a1, a2, a3, a4, a5, a6, a7, a8, a9, a10, a11, a12, a13, a14, a15) x y := by
  obtain ⟨hb, h⟩ := h
  obtain ⟨j, h1, h2, e⟩ := qb_bd_of hb
  unfold wpX_put
  dsimp only
  rw [e]
  have G : ∀ x4 z0, qb_it z0 y → wX_put_25 post y (nI j) x4 z0 hn hf ln ll rv sl ap wl ts fr fs iu a1 a2 a3 a4 a5 a6 a7 a8 a9 a10 a11 a12 a13 a14 a15 := by
    intro x4 z0 hi
    unfold wX_put_25
    rw [nI_clamp (by omega), h0 j h1 h2]
    exact qb_obY h1 h2 (br_f (by decide) (qb_itY hi (br_f (by decide) ⟨vp_in_nI (by omega) (by omega), br_f (by decide) hp⟩)))
  refine nm_e (nm_e (br_c (fun c => G _ _ ?_) (fun c => G _ _ ?_)))
  · rw [if_pos c] at h
    exact h
  · rw [if_neg c] at h
    exact h
end
end
section
section
variable {hn hf ln ll rv sl ap wl ts fr fs iu : Int32} {a1 a2 a3 a4 a5 a6 a7 a8 a9 a10 a11 a12 a13 a14 a15 : Nat → Int32} {post : Int32 → St2 → Prop}
theorem qb_dig4 {P : Int32 → Prop} {j n : Nat} {K v k : Int32} (hj1 : 1 ≤ j) (hj2 : j ≤ 8) (hn1 : n ≤ 1) (ho : qb_ob j K n v k a1 a2 a3 a4) (hp : P ((0 + (1000 * nI j) * K) + (if n = 1 then ((8 * nI j + 0) + 1) * v else 0))) : wpX_digest P (hn, hf, ln, ll, rv, sl, ap, wl, ts, fr, fs, iu, a1, a2, a3, a4, a5, a6, a7, a8, a9, a10, a11, a12, a13, a14, a15) := by
  obtain ⟨o1, o2, o3⟩ := ho
  unfold wpX_digest
  dsimp only
  refine pk_loop (fun m i (s : Int32) => wX_digest_4 P hn hf ln ll rv sl ap wl ts fr fs iu a1 a2 a3 a4 a5 a6 a7 a8 a9 a10 a11 a12 a13 a14 a15 m s (nI i)) (fun i s => 1 ≤ i ∧ s = if j < i then ((0 + (1000 * nI j) * K) + (if n = 1 then ((8 * nI j + 0) + 1) * v else 0)) else 0) 9 1 0 (by omega) ⟨by omega, by rw [if_neg (by omega)]⟩ ?_ ?_
  · rintro m s ⟨_, hs⟩
    rw [if_pos (by omega)] at hs
    rw [hs]
    exact pk_lt 8 9 (fun _ => hp) (fun c => absurd c (by omega))
  · rintro m i s hi ⟨g1, hs⟩ hw
    have e1 := o1 i g1 (by omega)
    have e2 := o2 i g1 (by omega)
    refine pk_lt 8 i (fun c => absurd c (by omega)) (fun _ => ⟨vp_in_nI (by omega) (by omega), ?_⟩)
    rw [nI_clamp (show i < 2 ^ 31 by omega), e1]
    by_cases hij : i = j
    · subst hij
      rw [if_pos rfl] at e2 ⊢
      rw [if_neg (by omega)] at hs
      refine nm_e ?_
      rw [hs]
      have C : n = 0 ∨ n = 1 := by omega
      rcases C with hn0 | hn0
      · subst hn0
        refine ⟨1, vp_in_nI (by omega) (by omega), ?_⟩
        rw [nI_clamp (show i < 2 ^ 31 by omega), e2]
        refine br_t (by decide) (nm_r (nI_1 i) (hw _ ⟨by omega, ?_⟩))
        rw [if_pos (show i < i + 1 by omega), if_neg (show ¬ (0 : Nat) = 1 by omega)]
        exact (Int32.add_zero _).symm
      · subst hn0
        obtain ⟨v1, v2⟩ := o3 rfl
        refine ⟨2, vp_in_nI (by omega) (by omega), ?_⟩
        rw [nI_clamp (show i < 2 ^ 31 by omega), e2, qb_i60, nI_clamp (show 6 * i < 2 ^ 31 by omega), v1]
        refine br_f (by decide) ⟨vp_in_nI (by omega) (by omega), nm_e (nm_r (e' := nI 1) (by decide) ⟨vp_in_nI (by omega) (by omega), ?_⟩)⟩
        rw [nI_clamp (show i < 2 ^ 31 by omega), e2]
        refine br_t (by decide) (nm_r (nI_1 i) (hw _ ⟨by omega, ?_⟩))
        rw [if_pos (show i < i + 1 by omega), if_pos rfl]
    · rw [if_neg hij] at e2 ⊢
      refine nm_r (e' := s) ?_ ⟨1, vp_in_nI (by omega) (by omega), ?_⟩
      · rw [Int32.mul_zero, Int32.add_zero]
      rw [nI_clamp (show i < 2 ^ 31 by omega), e2]
      refine br_t (by decide) (nm_r (nI_1 i) (hw _ ⟨by omega, ?_⟩))
      rw [hs]
      by_cases q : j < i
      · rw [if_pos q, if_pos (show j < i + 1 by omega)]
      · rw [if_neg q, if_neg (show ¬ j < i + 1 by omega)]
theorem qb_pres {P : Int32 → Prop} {j n : Nat} {K v k : Int32} (hj1 : 1 ≤ j) (hj2 : j ≤ 8) (ho : qb_ob j K n v k a1 a2 a3 a4) (hp : P (nI (qb_nK K))) : wpX_present P (hn, hf, ln, ll, rv, sl, ap, wl, ts, fr, fs, iu, a1, a2, a3, a4, a5, a6, a7, a8, a9, a10, a11, a12, a13, a14, a15) := by
  obtain ⟨o1, o2, o3⟩ := ho
  unfold wpX_present
  dsimp only
  refine pk_loop (fun m i (s : Int32) => wX_present_4 P hn hf ln ll rv sl ap wl ts fr fs iu a1 a2 a3 a4 a5 a6 a7 a8 a9 a10 a11 a12 a13 a14 a15 m s (nI i)) (fun i s => 1 ≤ i ∧ s = if j < i then nI (qb_nK K) else 0) 9 1 0 (by omega) ⟨by omega, by rw [if_neg (by omega)]⟩ ?_ ?_
  · rintro m s ⟨_, hs⟩
    rw [if_pos (by omega)] at hs
    rw [hs]
    exact pk_lt 8 9 (fun _ => hp) (fun c => absurd c (by omega))
  · rintro m i s hi ⟨g1, hs⟩ hw
    have e1 := o1 i g1 (by omega)
    refine pk_lt 8 i (fun c => absurd c (by omega)) (fun _ => ⟨vp_in_nI (by omega) (by omega), ?_⟩)
    rw [nI_clamp (show i < 2 ^ 31 by omega), e1]
    by_cases hij : i = j
    · subst hij
      rw [if_pos rfl]
      rw [if_neg (by omega)] at hs
      rw [hs]
      refine br_c (fun c => nm_e (nm_r (nI_1 i) (hw _ ⟨by omega, ?_⟩))) (fun c => nm_e (nm_r (nI_1 i) (hw _ ⟨by omega, ?_⟩)))
      · rw [if_pos (by omega)]
        unfold qb_nK
        rw [if_pos c]
        rfl
      · rw [if_pos (by omega)]
        unfold qb_nK
        rw [if_neg c]
        rfl
    · rw [if_neg hij]
      refine br_t rfl (nm_r (e' := s) (Int32.add_zero s) (nm_r (nI_1 i) (hw _ ⟨by omega, ?_⟩)))
      rw [hs]
      by_cases q : j < i
      · rw [if_pos q, if_pos (show j < i + 1 by omega)]
      · rw [if_neg q, if_neg (show ¬ j < i + 1 by omega)]
/-- what is reached from object 1 -/
def qb_re (j : Nat) (K : Int32) : Int32 := if j = 1 ∧ ¬ K = 0 then 2 else 0
theorem qb_bit2 : ∀ i, i < 9 → ((((2 : Int32) >>> (nI i &&& 31)) &&& 1) = 1 ↔ i = 1) ∧ ((((2 : Int32) >>> (nI i &&& 31)) &&& 1) = 0 ↔ ¬ i = 1) ∧ ((((0 : Int32) >>> (nI i &&& 31)) &&& 1) = 0) := by decide
theorem qb_or0 (x : Int32) : x ||| 0 = x := by
  apply Int32.toBitVec_inj.mp
  simp
theorem qb_lfr {P : Int32 → Prop} {z : Int32} (h1 : a1 1 = 1) (h2 : a2 1 = nI 1) (h4 : a4 6 = 0) (hp : P 0) : wpX_linkedFrom P (hn, hf, ln, ll, rv, sl, ap, wl, ts, fr, fs, iu, a1, a2, a3, a4, a5, a6, a7, a8, a9, a10, a11, a12, a13, a14, a15) (nI 1) := by
  unfold wpX_linkedFrom
  dsimp only
  refine nm_r (qb_i6' 1) ⟨2, vp_in_nI (by omega) (by omega), ?_⟩
  rw [nI_clamp (show 1 < 2 ^ 31 by omega), h1, h2, nI_clamp (show 6 * 1 < 2 ^ 31 by omega), h4]
  refine br_f (by decide) ⟨vp_in_nI (by omega) (by omega), br_f (by decide) ⟨vp_in_nI (by omega) (by omega), br_f (by decide) (nm_r (e' := 0) (by decide) (nm_r (nI_1 _) ⟨vp_in_nI (by omega) (by omega), ?_⟩))⟩⟩
  rw [nI_clamp (show 1 < 2 ^ 31 by omega), h2]
  exact br_t (by decide) hp
theorem qb_swe {j : Nat} {K z : Int32} (hj1 : 1 ≤ j) (hj2 : j ≤ 8) (hK : K = 0 ∨ K = 1) (ho : qb_ob j K (qb_nK K) z 0 a1 a2 a3 a4)
    (hA : (K = 0 ∨ j = 1) → post 0 (hn, hf, ln, ll, rv, sl, ap, wl, ts, fr, fs, iu, a1, a2, a3, a4, a5, a6, a7, a8, a9, a10, a11, a12, a13, a14, a15)) (hB : K = 1 → ¬ j = 1 → ∀ b1 b2 b6, qb_ob j 0 0 z 0 b1 b2 a3 a4 → post 1 (hn, hf, ln, ll, rv, sl, ap, wl, ts, fr, fs, iu, b1, b2, a3, a4, a5, b6, a7, a8, a9, a10, a11, a12, a13, a14, a15)) : wpX_sweep post (hn, hf, ln, ll, rv, sl, ap, wl, ts, fr, fs, iu, a1, a2, a3, a4, a5, a6, a7, a8, a9, a10, a11, a12, a13, a14, a15) := by
  have ho' := ho
  obtain ⟨o1, o2, o3⟩ := ho
  -- the last loop
  have L68 : ∃ fu, wX_sweep_68 post (qb_re j K) fu 0 1 hn hf ln ll rv sl ap wl ts fr fs iu a1 a2 a3 a4 a5 a6 a7 a8 a9 a10 a11 a12 a13 a14 a15 := by
    refine pk_loop (fun m i (s : Int32 × (Nat → Int32) × (Nat → Int32) × (Nat → Int32)) => wX_sweep_68 post (qb_re j K) m s.1 (nI i) hn hf ln ll rv sl ap wl ts fr fs iu s.2.1 s.2.2.1 a3 a4 a5 s.2.2.2 a7 a8 a9 a10 a11 a12 a13 a14 a15) (fun i s => 1 ≤ i ∧ (((i ≤ j ∨ K = 0 ∨ j = 1) ∧ s = (0, a1, a2, a6)) ∨ (j < i ∧ K = 1 ∧ ¬ j = 1 ∧ s.1 = 1 ∧ qb_ob j 0 0 z 0 s.2.1 s.2.2.1 a3 a4))) 9 1 (0, a1, a2, a6) (by omega) ⟨by omega, Or.inl ⟨Or.inl hj1, rfl⟩⟩ ?_ ?_
    · rintro m ⟨s, b1, b2, b6⟩ ⟨_, h | h⟩
      · obtain ⟨h1, h2⟩ := h
        injection h2 with e1 h2
        injection h2 with e2 h2
        injection h2 with e3 e4
        dsimp only
        subst e1 e2 e3 e4
        refine pk_lt 8 9 (fun _ => hA ?_) (fun c => absurd c (by omega))
        rcases h1 with h1 | h1 | h1
        · omega
        · exact Or.inl h1
        · exact Or.inr h1
      · obtain ⟨h1, h2, h3, h4, h5⟩ := h
        dsimp only at h4 h5 ⊢
        rw [h4]
        exact pk_lt 8 9 (fun _ => hB h2 h3 _ _ _ h5) (fun c => absurd c (by omega))
    · rintro m i ⟨s, b1, b2, b6⟩ hi ⟨g1, h⟩ hw
      dsimp only at h ⊢
      refine pk_lt 8 i (fun c => absurd c (by omega)) (fun _ => ⟨vp_in_nI (by omega) (by omega), ?_⟩)
      rw [nI_clamp (show i < 2 ^ 31 by omega)]
      rcases h with h | h
      · obtain ⟨h1, h2⟩ := h
        injection h2 with e1 h2
        injection h2 with e2 h2
        injection h2 with e3 e4
        subst e1 e2 e3 e4
        have e1 := o1 i g1 (by omega)
        rw [e1]
        by_cases hij : i = j
        · subst hij
          rw [if_pos rfl] at e1 ⊢
          refine br_c (fun c => nm_r (nI_1 i) (hw (_, _, _, _) ⟨by omega, Or.inl ⟨Or.inr (Or.inl c), rfl⟩⟩)) (fun c => ?_)
          have hK1 : K = 1 := by
            rcases hK with e | e
            · exact absurd e c
            · exact e
          by_cases hj : i = 1
          · refine br_f ?_ (nm_r (nI_1 i) (hw (_, _, _, _) ⟨by omega, Or.inl ⟨Or.inr (Or.inr hj), rfl⟩⟩))
            unfold qb_re
            rw [if_pos ⟨hj, c⟩, (qb_bit2 i (by omega)).2.1]
            exact fun q => q hj
          · refine br_t ?_ (qb_bec (by omega) ?_)
            · unfold qb_re
              rw [if_neg (fun q => hj q.1)]
              exact (qb_bit2 i (by omega)).2.2
            · dsimp only
              exact nm_r (e' := 1) (by decide) (nm_r (nI_1 i) (hw (_, _, _, _) ⟨by omega, Or.inr ⟨by omega, hK1, hj, rfl, qb_ob_rem ho'⟩⟩))
        · rw [if_neg hij]
          refine br_t rfl (nm_r (nI_1 i) (hw (_, _, _, _) ⟨by omega, Or.inl ⟨?_, rfl⟩⟩))
          rcases h1 with h1 | h1 | h1
          · exact Or.inl (by omega)
          · exact Or.inr (Or.inl h1)
          · exact Or.inr (Or.inr h1)
      · obtain ⟨h1, h2, h3, h4, h5⟩ := h
        rw [(qb_ob_zi h5 i g1 (by omega)).1]
        exact br_t rfl (nm_r (nI_1 i) (hw (_, _, _, _) ⟨by omega, Or.inr ⟨by omega, h2, h3, h4, h5⟩⟩))
  -- nothing new is reached
  have L25 : ∀ (J : Int32 → Int32 → Prop) (x2 : Int32), (∀ y, y = x2 + 1 → J (qb_re j K) y) → ∃ fu, wX_sweep_25 post J x2 hn hf ln ll rv sl ap wl ts fr fs iu a1 a2 a3 a4 a5 a6 a7 a8 a9 a10 a11 a12 a13 a14 a15 fu (qb_re j K) 1 := by
    intro J x2 hJ
    refine pk_loop (σ := Unit) (fun m i _ => wX_sweep_25 post J x2 hn hf ln ll rv sl ap wl ts fr fs iu a1 a2 a3 a4 a5 a6 a7 a8 a9 a10 a11 a12 a13 a14 a15 m (qb_re j K) (nI i)) (fun i _ => 1 ≤ i) 9 1 () (by omega) (by omega) (fun m _ _ => pk_lt 8 9 (fun _ => hJ) (fun c => absurd c (by omega))) (fun m i _ hi g1 hw => ?_)
    refine pk_lt 8 i (fun c => absurd c (by omega)) (fun _ => ?_)
    by_cases hr : j = 1 ∧ ¬ K = 0
    · have hre : qb_re j K = 2 := if_pos hr
      rw [hre] at hw ⊢
      have hK1 : K = 1 := by
        rcases hK with e | e
        · exact absurd e hr.2
        · exact e
      by_cases hi1 : i = 1
      · subst hi1
        obtain ⟨hr1, _⟩ := hr
        subst hr1 hK1
        have e1 := o1 1 (by omega) (by omega)
        have e2 := o2 1 (by omega) (by omega)
        rw [if_pos rfl] at e1 e2
        refine br_t (by decide) (qb_lfr (z := z) e1 e2 (o3 rfl).2 ?_)
        exact nm_r (qb_or0 _) (nm_r (nI_1 1) (hw () (by omega)))
      · refine br_f ?_ (nm_r (qb_or0 _) (nm_r (nI_1 i) (hw () (by omega))))
        rw [(qb_bit2 i (by omega)).1]
        exact hi1
    · have hre : qb_re j K = 0 := if_neg hr
      rw [hre] at hw ⊢
      refine br_f ?_ (nm_r (qb_or0 _) (nm_r (nI_1 i) (hw () (by omega))))
      rw [(qb_bit2 i (by omega)).2.2]
      decide
  have L17 : ∃ fu, wX_sweep_17 post hn hf ln ll rv sl ap wl ts fr fs iu a1 a2 a3 a4 a5 a6 a7 a8 a9 a10 a11 a12 a13 a14 a15 fu (qb_re j K) 0 := by
    refine pk_loop (σ := Unit) (fun m i _ => wX_sweep_17 post hn hf ln ll rv sl ap wl ts fr fs iu a1 a2 a3 a4 a5 a6 a7 a8 a9 a10 a11 a12 a13 a14 a15 m (qb_re j K) (nI i)) (fun i _ => True) 8 0 () (by omega) trivial (fun m _ _ => pk_le 8 8 (fun _ => L68) (fun c => absurd c (by omega))) (fun m i _ hi _ hw => ?_)
    refine pk_le 8 i (fun c => absurd c (by omega)) (fun _ => L25 _ _ (fun y hy => ?_))
    rw [hy, nI_1]
    exact hw () trivial
  unfold wpX_sweep
  dsimp only
  have e1 := o1 1 (by omega) (by omega)
  rw [e1]
  by_cases hr : j = 1 ∧ ¬ K = 0
  · have hre : qb_re j K = 2 := if_pos hr
    rw [hre] at L17
    rw [if_pos hr.1.symm]
    exact br_f hr.2 L17
  · have hre : qb_re j K = 0 := if_neg hr
    rw [hre] at L17
    refine br_t ?_ L17
    by_cases q : 1 = j
    · rw [if_pos q]
      by_cases q2 : K = 0
      · exact q2
      · exact absurd ⟨q.symm, q2⟩ hr
    · rw [if_neg q]
end
end
section
section
variable {hn hf ln ll rv sl ap wl ts fr fs iu : Int32} {a1 a2 a3 a4 a5 a6 a7 a8 a9 a10 a11 a12 a13 a14 a15 : Nat → Int32}
/-- a picture below i is another's -/
theorem qb_keep {post : St2 → Prop} {j n : Nat} {K v k : Int32} (hj1 : 1 ≤ j) (hj2 : j ≤ 8) (hn1 : n ≤ 1) (ho : qb_ob j K n v k a1 a2 a3 a4) (hp : ∀ b11 b12 b13 b14 b15, qb_ob j K n v k b11 b12 b13 b14 → post (hn, hf, ln, ll, rv, sl, ap, wl, ts, fr, fs, iu, a1, a2, a3, a4, a5, a6, a7, a8, a9, a10, b11, b12, b13, b14, b15)) : wpX_keepAll post (hn, hf, ln, ll, rv, sl, ap, wl, ts, fr, fs, iu, a1, a2, a3, a4, a5, a6, a7, a8, a9, a10, a11, a12, a13, a14, a15) := by
  obtain ⟨o1, o2, o3⟩ := ho
  unfold wpX_keepAll
  dsimp only
  refine pk_loop (fun m i (s : (Nat → Int32) × (Nat → Int32) × (Nat → Int32) × (Nat → Int32) × (Nat → Int32)) => wX_keepAll_2 post hn hf ln ll rv sl ap wl ts fr fs iu m (nI i) a1 a2 a3 a4 a5 a6 a7 a8 a9 a10 s.1 s.2.1 s.2.2.1 s.2.2.2.1 s.2.2.2.2) (fun i s => 1 ≤ i ∧ (∀ x, 1 ≤ x → x < i → s.1 x = a1 x ∧ s.2.1 x = a2 x) ∧ (n = 1 → j < i → s.2.2.1 (6 * j) = v ∧ s.2.2.2.1 (6 * j) = k)) 9 1 (a11, a12, a13, a14, a15) (by omega) ⟨by omega, fun x h1 h2 => absurd h2 (by omega), fun _ h => absurd h (by omega)⟩ ?_ ?_
  · rintro m ⟨b11, b12, b13, b14, b15⟩ ⟨_, h2, h3⟩
    dsimp only at h2 h3 ⊢
    refine pk_lt 8 9 (fun _ => hp _ _ _ _ _ ⟨fun i g1 g2 => ?_, fun i g1 g2 => ?_, fun e => h3 e (by omega)⟩) (fun c => absurd c (by omega))
    · rw [(h2 i g1 (by omega)).1, o1 i g1 g2]
    · rw [(h2 i g1 (by omega)).2, o2 i g1 g2]
  · rintro m i ⟨b11, b12, b13, b14, b15⟩ hi ⟨g1, h2, h3⟩ hw
    dsimp only at h2 h3 ⊢
    have e2 := o2 i g1 (by omega)
    have H2 : ∀ x, 1 ≤ x → x < i + 1 → upd b11 i (a1 i) x = a1 x ∧ upd b12 i (a2 i) x = a2 x := by
      intro x q1 q2
      by_cases e : x = i
      · rw [e, pk_us, pk_us]
        exact ⟨rfl, rfl⟩
      · rw [pk_un e, pk_un e]
        exact h2 x q1 (by omega)
    refine pk_lt 8 i (fun c => absurd c (by omega)) (fun _ => ⟨vp_in_nI (by omega) (by omega), vp_in_nI (by omega) (by omega), ?_⟩)
    rw [nI_clamp (show i < 2 ^ 31 by omega)]
    refine nm_e ⟨vp_in_nI (by omega) (by omega), vp_in_nI (by omega) (by omega), nm_e (nm_r (qb_i6' i) ?_)⟩
    by_cases hc : i = j ∧ n = 1
    · obtain ⟨hij, hn0⟩ := hc
      subst hij hn0
      rw [if_pos rfl] at e2
      obtain ⟨v1, v2⟩ := o3 rfl
      refine ⟨2, vp_in_nI (by omega) (by omega), ?_⟩
      rw [nI_clamp (show i < 2 ^ 31 by omega), e2, qb_i6, nI_clamp (show 6 * i < 2 ^ 31 by omega)]
      refine br_f (nI_ge (by omega) (by omega)) ⟨vp_in_nI (by omega) (by omega), vp_in_nI (by omega) (by omega), nm_e ⟨vp_in_nI (by omega) (by omega), vp_in_nI (by omega) (by omega), nm_e ⟨vp_in_nI (by omega) (by omega), vp_in_nI (by omega) (by omega), nm_e (nm_r (nI_1 _) ⟨vp_in_nI (by omega) (by omega), ?_⟩)⟩⟩⟩
      rw [nI_clamp (show i < 2 ^ 31 by omega), ← e2]
      refine br_t (by rw [e2, qb_i6]; exact nI_le (by omega) (by omega)) (nm_r (nI_1 i) (hw (upd b11 i (a1 i), upd b12 i (a2 i), upd b13 (6 * i) (a3 (6 * i)), upd b14 (6 * i) (a4 (6 * i)), upd b15 (6 * i) (a5 (6 * i))) ⟨by omega, H2, fun _ _ => ?_⟩))
      dsimp only
      rw [pk_us, pk_us]
      exact ⟨v1, v2⟩
    · have e3 : a2 i = nI 0 := by
        rw [e2]
        by_cases q : i = j
        · rw [if_pos q, show n = 0 by
            rcases Nat.lt_or_ge n 1 with z | z
            · omega
            · exact absurd ⟨q, by omega⟩ hc]
        · rw [if_neg q]
          rfl
      refine ⟨1, vp_in_nI (by omega) (by omega), ?_⟩
      rw [nI_clamp (show i < 2 ^ 31 by omega)]
      refine br_t (by rw [e3, qb_i6]; exact nI_le (by omega) (by omega)) (nm_r (nI_1 i) (hw (_, _, _, _, _) ⟨by omega, H2, fun q1 q2 => h3 q1 ?_⟩))
      rcases Nat.lt_or_ge j i with z | z
      · exact z
      · exact absurd ⟨by omega, q1⟩ hc
theorem qb_back {post : St2 → Prop} {j n : Nat} {K v k : Int32} (hj1 : 1 ≤ j) (hj2 : j ≤ 8) (hn1 : n ≤ 1) (ho : qb_ob j K n v k a11 a12 a13 a14) (hp : ∀ b1 b2 b3 b4 b5, qb_ob j K n v k b1 b2 b3 b4 → post (hn, hf, ln, ll, rv, sl, ap, wl, ts, fr, fs, iu, b1, b2, b3, b4, b5, a6, a7, a8, a9, a10, a11, a12, a13, a14, a15)) : wpX_bringBack post (hn, hf, ln, ll, rv, sl, ap, wl, ts, fr, fs, iu, a1, a2, a3, a4, a5, a6, a7, a8, a9, a10, a11, a12, a13, a14, a15) := by
  obtain ⟨o1, o2, o3⟩ := ho
  unfold wpX_bringBack
  dsimp only
  refine pk_loop (fun m i (s : (Nat → Int32) × (Nat → Int32) × (Nat → Int32) × (Nat → Int32) × (Nat → Int32)) => wX_bringBack_2 post hn hf ln ll rv sl ap wl ts fr fs iu m (nI i) s.1 s.2.1 s.2.2.1 s.2.2.2.1 s.2.2.2.2 a6 a7 a8 a9 a10 a11 a12 a13 a14 a15) (fun i s => 1 ≤ i ∧ (∀ x, 1 ≤ x → x < i → s.1 x = a11 x ∧ s.2.1 x = a12 x) ∧ (n = 1 → j < i → s.2.2.1 (6 * j) = v ∧ s.2.2.2.1 (6 * j) = k)) 9 1 (a1, a2, a3, a4, a5) (by omega) ⟨by omega, fun x h1 h2 => absurd h2 (by omega), fun _ h => absurd h (by omega)⟩ ?_ ?_
  · rintro m ⟨b1, b2, b3, b4, b5⟩ ⟨_, h2, h3⟩
    dsimp only at h2 h3 ⊢
    refine pk_lt 8 9 (fun _ => hp _ _ _ _ _ ⟨fun i g1 g2 => ?_, fun i g1 g2 => ?_, fun e => h3 e (by omega)⟩) (fun c => absurd c (by omega))
    · rw [(h2 i g1 (by omega)).1, o1 i g1 g2]
    · rw [(h2 i g1 (by omega)).2, o2 i g1 g2]
  · rintro m i ⟨b1, b2, b3, b4, b5⟩ hi ⟨g1, h2, h3⟩ hw
    dsimp only at h2 h3 ⊢
    have e2 := o2 i g1 (by omega)
    have H2 : ∀ x, 1 ≤ x → x < i + 1 → upd b1 i (a11 i) x = a11 x ∧ upd b2 i (a12 i) x = a12 x := by
      intro x q1 q2
      by_cases e : x = i
      · rw [e, pk_us, pk_us]
        exact ⟨rfl, rfl⟩
      · rw [pk_un e, pk_un e]
        exact h2 x q1 (by omega)
    refine pk_lt 8 i (fun c => absurd c (by omega)) (fun _ => ⟨vp_in_nI (by omega) (by omega), vp_in_nI (by omega) (by omega), ?_⟩)
    rw [nI_clamp (show i < 2 ^ 31 by omega)]
    refine nm_e ⟨vp_in_nI (by omega) (by omega), vp_in_nI (by omega) (by omega), nm_e (nm_r (qb_i6' i) ?_)⟩
    by_cases hc : i = j ∧ n = 1
    · obtain ⟨hij, hn0⟩ := hc
      subst hij hn0
      rw [if_pos rfl] at e2
      obtain ⟨v1, v2⟩ := o3 rfl
      refine ⟨2, vp_in_nI (by omega) (by omega), ?_⟩
      rw [nI_clamp (show i < 2 ^ 31 by omega), pk_us, e2, qb_i6, nI_clamp (show 6 * i < 2 ^ 31 by omega)]
      refine br_f (nI_ge (by omega) (by omega)) ⟨vp_in_nI (by omega) (by omega), vp_in_nI (by omega) (by omega), nm_e ⟨vp_in_nI (by omega) (by omega), vp_in_nI (by omega) (by omega), nm_e ⟨vp_in_nI (by omega) (by omega), vp_in_nI (by omega) (by omega), nm_e (nm_r (nI_1 _) ⟨vp_in_nI (by omega) (by omega), ?_⟩)⟩⟩⟩
      rw [nI_clamp (show i < 2 ^ 31 by omega), ← e2]
      refine br_t (by rw [pk_us, e2, qb_i6]; exact nI_le (by omega) (by omega)) (nm_r (nI_1 i) (hw (upd b1 i (a11 i), upd b2 i (a12 i), upd b3 (6 * i) (a13 (6 * i)), upd b4 (6 * i) (a14 (6 * i)), upd b5 (6 * i) (a15 (6 * i))) ⟨by omega, H2, fun _ _ => ?_⟩))
      dsimp only
      rw [pk_us, pk_us]
      exact ⟨v1, v2⟩
    · have e3 : a12 i = nI 0 := by
        rw [e2]
        by_cases q : i = j
        · rw [if_pos q, show n = 0 by
            rcases Nat.lt_or_ge n 1 with z | z
            · omega
            · exact absurd ⟨q, by omega⟩ hc]
        · rw [if_neg q]
          rfl
      refine ⟨1, vp_in_nI (by omega) (by omega), ?_⟩
      rw [nI_clamp (show i < 2 ^ 31 by omega)]
      refine br_t (by rw [pk_us, e3, qb_i6]; exact nI_le (by omega) (by omega)) (nm_r (nI_1 i) (hw (_, _, _, _, _) ⟨by omega, H2, fun q1 q2 => h3 q1 ?_⟩))
      rcases Nat.lt_or_ge j i with z | z
      · exact z
      · exact absurd ⟨by omega, q1⟩ hc
theorem qb_aswN {P : Int32 → Prop} {i : Nat} (hi : i < 9) (h : ¬ a1 i = a11 i) (hp : P 0) : wpX_isAsWas P (hn, hf, ln, ll, rv, sl, ap, wl, ts, fr, fs, iu, a1, a2, a3, a4, a5, a6, a7, a8, a9, a10, a11, a12, a13, a14, a15) (nI i) := by
  unfold wpX_isAsWas
  dsimp only
  rw [nI_clamp (by omega)]
  exact ⟨vp_in_nI (by omega) (by omega), vp_in_nI (by omega) (by omega), br_f h hp⟩
theorem qb_aswY {P : Int32 → Prop} {i m : Nat} (hi : i < 9) (hm : m ≤ 1) (h1 : a1 i = a11 i) (h4 : ¬ a1 i = 4) (h2 : a2 i = nI m) (h2' : a12 i = nI m) (h3 : m = 1 → a3 (6 * i) = a13 (6 * i) ∧ a4 (6 * i) = a14 (6 * i)) (hp : P 1) : wpX_isAsWas P (hn, hf, ln, ll, rv, sl, ap, wl, ts, fr, fs, iu, a1, a2, a3, a4, a5, a6, a7, a8, a9, a10, a11, a12, a13, a14, a15) (nI i) := by
  unfold wpX_isAsWas
  dsimp only
  rw [nI_clamp (by omega)]
  refine ⟨vp_in_nI (by omega) (by omega), vp_in_nI (by omega) (by omega), br_t h1 ⟨vp_in_nI (by omega) (by omega), vp_in_nI (by omega) (by omega), br_t (by rw [h2, h2']) (nm_r (qb_i6' i) ?_)⟩⟩
  have C : m = 0 ∨ m = 1 := by omega
  rcases C with e | e
  · subst e
    refine ⟨1, vp_in_nI (by omega) (by omega), ?_⟩
    rw [nI_clamp (by omega), h2, qb_i6]
    exact br_t (nI_le (by omega) (by omega)) hp
  · subst e
    obtain ⟨g1, g2⟩ := h3 rfl
    refine ⟨2, vp_in_nI (by omega) (by omega), ?_⟩
    rw [nI_clamp (show i < 2 ^ 31 by omega), h2, qb_i6, nI_clamp (show 6 * i < 2 ^ 31 by omega)]
    refine br_f (nI_ge (by omega) (by omega)) ⟨vp_in_nI (by omega) (by omega), vp_in_nI (by omega) (by omega), br_t g1 ⟨vp_in_nI (by omega) (by omega), vp_in_nI (by omega) (by omega), br_t g2 ?_⟩⟩
    unfold wX_isAsWas_87
    rw [nI_clamp (show i < 2 ^ 31 by omega)]
    refine br_f (by decide) ⟨vp_in_nI (by omega) (by omega), br_f h4 (nm_r (nI_1 _) ⟨vp_in_nI (by omega) (by omega), ?_⟩)⟩
    rw [nI_clamp (show i < 2 ^ 31 by omega), h2, qb_i6]
    exact br_t (nI_le (by omega) (by omega)) hp
theorem qb_vb0 : vp_nar .boolean 0 = 0 := by decide
theorem qb_vb1 : vp_nar .boolean 1 = 1 := by decide
/-- the comparing loop of changed: what was, and what is loaded -/
theorem qb_chg18 {post : Int32 → St2 → Prop} {j n : Nat} {K v k Kf z : Int32} (hj1 : 1 ≤ j) (hj2 : j ≤ 8) (hn1 : n ≤ 1) (hKf : Kf = 0 ∨ Kf = 1) (ho : qb_ob j Kf (qb_nK Kf) z 0 a1 a2 a3 a4) (hw : qb_ob j K n v k a11 a12 a13 a14) (hc : K = Kf → n = qb_nK Kf ∧ (n = 1 → v = z ∧ k = 0))
    (hp : ∀ b1 b2 b3 b4 b5 b6, qb_ob j K n v k b1 b2 b3 b4 → (∀ i, 1 ≤ i → i ≤ 8 → b6 i = if i = j ∧ ¬ K = Kf then 1 else 0) → post (if K = Kf then 0 else 1) (hn, hf, ln, ll, rv, sl, ap, wl, ts, fr, fs, iu, b1, b2, b3, b4, b5, b6, a7, a8, a9, a10, a11, a12, a13, a14, a15)) : ∃ fu, wX_changed_18 post hn hf ln ll rv sl ap wl ts fr fs iu fu 0 1 a1 a2 a3 a4 a5 a6 a7 a8 a9 a10 a11 a12 a13 a14 a15 := by
  have hw' := hw
  obtain ⟨o1, o2, o3⟩ := ho
  obtain ⟨w1, w2, w3⟩ := hw
  refine pk_loop (fun m i (s : Int32 × (Nat → Int32)) => wX_changed_18 post hn hf ln ll rv sl ap wl ts fr fs iu m s.1 (nI i) a1 a2 a3 a4 a5 s.2 a7 a8 a9 a10 a11 a12 a13 a14 a15) (fun i s => 1 ≤ i ∧ (s.1 = if j < i ∧ ¬ K = Kf then 1 else 0) ∧ (∀ x, 1 ≤ x → x < i → s.2 x = if x = j ∧ ¬ K = Kf then 1 else 0)) 9 1 (0, a6) (by omega) ⟨by omega, by rw [if_neg (fun c => absurd c.1 (by omega))], fun x h1 h2 => absurd h2 (by omega)⟩ ?_ ?_
  · rintro m ⟨s, b6⟩ ⟨_, h2, h3⟩
    dsimp only at h2 h3 ⊢
    refine pk_lt 8 9 (fun _ => qb_back hj1 hj2 hn1 hw' (fun b1 b2 b3 b4 b5 hb => ?_)) (fun c => absurd c (by omega))
    dsimp only
    have := hp b1 b2 b3 b4 b5 b6 hb (fun i g1 g2 => h3 i g1 (by omega))
    rw [h2]
    by_cases q : K = Kf
    · rw [if_neg (fun c => c.2 q)]
      rw [if_pos q] at this
      exact this
    · rw [if_pos ⟨by omega, q⟩]
      rw [if_neg q] at this
      exact this
  · rintro m i ⟨s, b6⟩ hi ⟨g1, h2, h3⟩ hw
    dsimp only at h2 h3 ⊢
    have e1 := o1 i g1 (by omega)
    have f1 := w1 i g1 (by omega)
    have e2 := o2 i g1 (by omega)
    have f2 := w2 i g1 (by omega)
    have H : ∀ y, (y = if i = j ∧ ¬ K = Kf then 1 else 0) → ∀ x, 1 ≤ x → x < i + 1 → upd b6 i y x = if x = j ∧ ¬ K = Kf then 1 else 0 := by
      intro y hy x q1 q2
      by_cases e : x = i
      · rw [e, pk_us, hy]
      · rw [pk_un e]
        exact h3 x q1 (by omega)
    refine pk_lt 8 i (fun c => absurd c (by omega)) (fun _ => ?_)
    by_cases hd : i = j ∧ ¬ K = Kf
    · obtain ⟨hij, hK⟩ := hd
      subst hij
      rw [if_pos rfl] at e1 f1
      refine qb_aswN (by omega) (by rw [e1, f1]; exact fun c => hK c.symm) (br_t rfl ?_)
      unfold wX_changed_44
      rw [nI_clamp (show i < 2 ^ 31 by omega), qb_vb1]
      refine ⟨vp_in_nI (by omega) (by omega), nm_e (br_t rfl (nm_r (nI_1 i) (hw (_, _) ⟨by omega, ?_, H 1 ?_⟩)))⟩
      · rw [if_pos ⟨by omega, hK⟩]
      · rw [if_pos ⟨rfl, hK⟩]
    · have G : wX_changed_44 post (wX_changed_18 post hn hf ln ll rv sl ap wl ts fr fs iu m) s (nI i) 1 0 (nI i) hn hf ln ll rv sl ap wl ts fr fs iu a1 a2 a3 a4 a5 b6 a7 a8 a9 a10 a11 a12 a13 a14 a15 := by
        unfold wX_changed_44
        rw [nI_clamp (show i < 2 ^ 31 by omega), qb_vb0]
        refine ⟨vp_in_nI (by omega) (by omega), nm_e (br_f (by decide) (nm_r (nI_1 i) (hw (_, _) ⟨by omega, ?_, H 0 ?_⟩)))⟩
        · dsimp only
          rw [h2]
          by_cases q : K = Kf
          · rw [if_neg (fun c => c.2 q), if_neg (fun c => c.2 q)]
          · by_cases q2 : j < i
            · rw [if_pos ⟨q2, q⟩, if_pos ⟨by omega, q⟩]
            · rw [if_neg (fun c => q2 c.1), if_neg (fun c => hd ⟨by omega, q⟩)]
        · rw [if_neg hd]
      by_cases hij : i = j
      · subst hij
        have hK : K = Kf := by
          by_cases q : K = Kf
          · exact q
          · exact absurd ⟨rfl, q⟩ hd
        obtain ⟨c1, c2⟩ := hc hK
        rw [if_pos rfl] at e1 e2 f1 f2
        refine qb_aswY (m := n) (by omega) hn1 (by rw [e1, f1, hK]) ?_ (by rw [e2, c1]) f2 (fun hn => ?_) (br_f (by decide) G)
        · rw [e1]
          rcases hKf with e | e <;> rw [e] <;> decide
        · rw [(o3 (by rw [← c1]; exact hn)).1, (o3 (by rw [← c1]; exact hn)).2, (w3 hn).1, (w3 hn).2, (c2 hn).1, (c2 hn).2]
          exact ⟨rfl, rfl⟩
      · rw [if_neg hij] at e1 e2 f1 f2
        refine qb_aswY (m := 0) (by omega) (by omega) (by rw [e1, f1]) (by rw [e1]; decide) e2 f2 (fun c => absurd c (by omega)) (br_f (by decide) G)
end
end
section
section
variable {hn hf ln ll rv sl ap wl ts fr fs iu : Int32} {a1 a2 a3 a4 a5 a6 a7 a8 a9 a10 a11 a12 a13 a14 a15 : Nat → Int32}
/-- the file: s is 1 if a revision is saved; K is the kind of object j in it (0: none), z its number -/
def qb_FP (s : Int32) (j : Nat) (K z hn hf ln ll rv iu : Int32) (a7 a8 a9 : Nat → Int32) : Prop :=
  (s = 1 ∧ (K = 0 ∨ K = 1) ∧ hn = 2 ∧ rv = 1 ∧ (∃ h, h ≤ 1 ∧ hf = nI h ∧ qb_FL h j K z ll a7) ∧ (iu = 0 ∨ qb_tx a9 0 (qb_ox K 1 z 0)) ∧ a8 5 = 1 ∧ a8 6 = 2 ∧ a8 7 = hf ∧ a8 8 = ln ∧ a8 9 = ll ∧ a8 10 = 1 ∧ a8 11 = 2)
  ∨ (s = 0 ∧ K = 0 ∧ hn = 1 ∧ rv = 0 ∧ hf = 0 ∧ ln = 0 ∧ ll = -1 ∧ a8 0 = 1 ∧ a8 1 = 0 ∧ a8 2 = 0 ∧ a8 3 = -1 ∧ a8 4 = 0 ∧ a8 5 = 1 ∧ a8 11 = 0)
theorem qb_FP_K {s : Int32} {j : Nat} {K z : Int32} (h : qb_FP s j K z hn hf ln ll rv iu a7 a8 a9) : K = 0 ∨ K = 1 := by
  rcases h with h | h
  · exact h.2.1
  · exact Or.inl h.2.1
theorem qb_load {post : St2 → Prop} {s : Int32} {j : Nat} {K z : Int32} (hj1 : 1 ≤ j) (hj : j ≤ 8) (hf' : qb_FP s j K z hn hf ln ll rv iu a7 a8 a9)
    (hp : ∀ sl fr fs iu b1 b2 b3 b4 b5 b6 b9, qb_ob j K (qb_nK K) z 0 b1 b2 b3 b4 → qb_FP s j K z hn hf ln ll rv iu a7 a8 b9 → post (hn, hf, ln, ll, rv, sl, ap, wl, ts, fr, fs, iu, b1, b2, b3, b4, b5, b6, a7, a8, b9, a10, a11, a12, a13, a14, a15)) : wpX_load post (hn, hf, ln, ll, rv, sl, ap, wl, ts, fr, fs, iu, a1, a2, a3, a4, a5, a6, a7, a8, a9, a10, a11, a12, a13, a14, a15) (rv - 1) := by
  rcases hf' with ⟨h1, hK, h2, h3, ⟨h, hh, h4, h5⟩, h6, h7⟩ | ⟨h1, hK, h2, h3, h4⟩
  · subst h4
    subst h3
    refine qb_loadS hh hj1 hj hK rfl h5 h6 (fun sl fr fs iu b1 b2 b3 b4 b5 b6 b9 g1 g2 => hp _ _ _ _ _ _ _ _ _ _ _ g1 ?_)
    exact Or.inl ⟨h1, hK, h2, rfl, ⟨h, hh, rfl, h5⟩, g2, h7⟩
  · subst h3 hK
    refine qb_loadU (j := j) (v := z) (k := 0) (fun b1 b2 b6 g => hp _ _ _ _ _ _ _ _ _ _ _ g ?_)
    exact Or.inr ⟨h1, rfl, h2, rfl, h4⟩
theorem qb_chg {post : Int32 → St2 → Prop} {s : Int32} {j n : Nat} {K v k Kf z : Int32} (hj1 : 1 ≤ j) (hj : j ≤ 8) (hn1 : n ≤ 1) (hf' : qb_FP s j Kf z hn hf ln ll rv iu a7 a8 a9) (ho : qb_ob j K n v k a1 a2 a3 a4) (hc : K = Kf → n = qb_nK Kf ∧ (n = 1 → v = z ∧ k = 0))
    (hp : ∀ sl fr fs iu b1 b2 b3 b4 b5 b6 b9 b11 b12 b13 b14 b15, qb_ob j K n v k b1 b2 b3 b4 → qb_FP s j Kf z hn hf ln ll rv iu a7 a8 b9 → (∀ i, 1 ≤ i → i ≤ 8 → b6 i = if i = j ∧ ¬ K = Kf then 1 else 0) → post (if K = Kf then 0 else 1) (hn, hf, ln, ll, rv, sl, ap, wl, ts, fr, fs, iu, b1, b2, b3, b4, b5, b6, a7, a8, b9, a10, b11, b12, b13, b14, b15)) : wpX_changed post (hn, hf, ln, ll, rv, sl, ap, wl, ts, fr, fs, iu, a1, a2, a3, a4, a5, a6, a7, a8, a9, a10, a11, a12, a13, a14, a15) := by
  unfold wpX_changed
  dsimp only
  refine qb_keep hj1 hj hn1 ho (fun b11 b12 b13 b14 b15 hw => ?_)
  dsimp only
  refine qb_load hj1 hj hf' (fun sl fr fs iu c1 c2 c3 c4 c5 c6 c9 g1 g2 => ?_)
  dsimp only
  refine qb_chg18 hj1 hj hn1 (qb_FP_K hf') g1 hw hc (fun b1 b2 b3 b4 b5 b6 q1 q2 => ?_)
  exact hp _ _ _ _ _ _ _ _ _ _ _ _ _ _ _ _ q1 g2 q2
theorem qb_opB {post : Int32 → St2 → Prop} {x : Int32} (h : x < 0 ∨ ¬ x < rv) (hp : post (-1) (hn, hf, ln, ll, rv, sl, ap, wl, ts, fr, fs, iu, a1, a2, a3, a4, a5, a6, a7, a8, a9, a10, a11, a12, a13, a14, a15)) : wpX_open post (hn, hf, ln, ll, rv, sl, ap, wl, ts, fr, fs, iu, a1, a2, a3, a4, a5, a6, a7, a8, a9, a10, a11, a12, a13, a14, a15) x := by
  unfold wpX_open
  dsimp only
  rcases h with h | h
  · exact br_t h hp
  · exact br_c (fun _ => hp) (fun _ => br_f h hp)
theorem qb_op0 {post : Int32 → St2 → Prop} {j : Nat} {K z : Int32} (hj1 : 1 ≤ j) (hj : j ≤ 8) (hf' : qb_FP 1 j K z hn hf ln ll rv iu a7 a8 a9)
    (hp : ∀ sl fr fs iu b1 b2 b3 b4 b5 b6 b9, qb_ob j K (qb_nK K) z 0 b1 b2 b3 b4 → qb_FP 1 j K z hn hf ln ll rv iu a7 a8 b9 → post (nI (qb_nK K)) (hn, hf, ln, ll, rv, sl, ap, wl, ts, fr, fs, iu, b1, b2, b3, b4, b5, b6, a7, a8, b9, a10, a11, a12, a13, a14, a15)) : wpX_open post (hn, hf, ln, ll, rv, sl, ap, wl, ts, fr, fs, iu, a1, a2, a3, a4, a5, a6, a7, a8, a9, a10, a11, a12, a13, a14, a15) 0 := by
  have hrv : rv = 1 := by
    rcases hf' with h | h
    · exact h.2.2.2.1
    · exact absurd h.1 (by decide)
  unfold wpX_open
  dsimp only
  refine br_f (by decide) (br_t (by rw [hrv]; decide) ?_)
  have e : (0 : Int32) = rv - 1 := by
    rw [hrv]
    decide
  rw [e]
  refine qb_load hj1 hj hf' (fun sl fr fs iu c1 c2 c3 c4 c5 c6 c9 g1 g2 => ?_)
  dsimp only
  exact qb_pres hj1 hj g1 (hp _ _ _ _ _ _ _ _ _ _ _ g1 g2)
theorem qb_h12 : 6 * ((1 : Int32) &&& 1) = nI 6 ∧ 6 * ((2 : Int32) &&& 1) = nI 0 := by decide
theorem qb_fl_keep {h j : Nat} {K z ll : Int32} {b : Nat → Int32} (hf' : qb_FL h j K z ll a7) (hb : ∀ q, 3700 * h ≤ q → q < 3700 * h + 1000 → b q = a7 q) : qb_FL h j K z ll b := by
  obtain ⟨w, PRE, h1, h2, h3, h4⟩ := hf'
  refine ⟨w, PRE, h1, h2, h3, qb_tx_cg (fun i _ g => ?_) h4⟩
  have := qb_TX_len (w := w) (j := j) (K := K) (qb_PR_len h2 (qb_ox_len K 1 z 0))
  unfold qb_rf
  rw [hb _ (by omega) (by omega)]
theorem qb_fh53 {post : St2 → Prop} {x : Nat} (hx : x ≤ 6) (hp : post (a8 x, a8 (x + 1), a8 (x + 2), a8 (x + 3), a8 (x + 4), sl, ap, wl, ts, fr, fs, 0, a1, a2, a3, a4, a5, a6, a7, a8, a9, a10, a11, a12, a13, a14, a15)) : wX_findHead_53 post (nI x) hn hf ln ll rv sl ap wl ts fr fs iu a1 a2 a3 a4 a5 a6 a7 a8 a9 a10 a11 a12 a13 a14 a15 := by
  unfold wX_findHead_53
  rw [show nI x + 1 = nI (x + 1) from nI_add x 1, show nI x + 2 = nI (x + 2) from nI_add x 2, show nI x + 3 = nI (x + 3) from nI_add x 3, show nI x + 4 = nI (x + 4) from nI_add x 4]
  rw [nI_clamp (show x < 2 ^ 31 by omega), nI_clamp (show x + 1 < 2 ^ 31 by omega), nI_clamp (show x + 2 < 2 ^ 31 by omega), nI_clamp (show x + 3 < 2 ^ 31 by omega), nI_clamp (show x + 4 < 2 ^ 31 by omega)]
  exact ⟨vp_in_nI (by omega) (by omega), nm_e ⟨vp_in_nI (by omega) (by omega), nm_e ⟨vp_in_nI (by omega) (by omega), nm_e ⟨vp_in_nI (by omega) (by omega), nm_e ⟨vp_in_nI (by omega) (by omega), nm_e hp⟩⟩⟩⟩⟩
theorem qb_brkB {post : Int32 → St2 → Prop} {x y : Int32} (h : x < 0 ∨ ¬ x ≤ 2) (hp : post (-1) (hn, hf, ln, ll, rv, sl, ap, wl, ts, fr, fs, iu, a1, a2, a3, a4, a5, a6, a7, a8, a9, a10, a11, a12, a13, a14, a15)) : wpX_breakOff post (hn, hf, ln, ll, rv, sl, ap, wl, ts, fr, fs, iu, a1, a2, a3, a4, a5, a6, a7, a8, a9, a10, a11, a12, a13, a14, a15) x y := by
  unfold wpX_breakOff
  dsimp only
  rcases h with h | h
  · exact br_t h hp
  · exact br_c (fun _ => hp) (fun _ => br_f h hp)
/-- a saving that is broken off -/
theorem qb_brk33 {post : Int32 → St2 → Prop} {s : Int32} {j n w W : Nat} {K v k Kf z : Int32} (hj1 : 1 ≤ j) (hj : j ≤ 8) (hw : w ≤ 2) (hW : W ≤ 3700) (hf' : qb_FP s j Kf z hn hf ln ll rv iu a7 a8 a9) (ho : qb_ob j K n v k a1 a2 a3 a4) (hok : qb_ok K n k) (hs : w = 0 → s = 0) (ht : w = 0 → ∀ i, 1 ≤ i → i ≤ 8 → (a6 i = 0 ↔ ¬ (i = j ∧ ¬ K = 0)))
    (hp : ∀ sl ap wl ts fr fs iu b1 b2 b3 b4 b5 b6 b7 b8 b9 b10, qb_ob j Kf (qb_nK Kf) z 0 b1 b2 b3 b4 → qb_FP s j Kf z hn hf ln ll rv iu b7 b8 b9 → post rv (hn, hf, ln, ll, rv, sl, ap, wl, ts, fr, fs, iu, b1, b2, b3, b4, b5, b6, b7, b8, b9, b10, a11, a12, a13, a14, a15)) : wX_breakOff_33 post (nI w) (nI W) hn hf ln ll rv sl ap wl ts fr fs iu a1 a2 a3 a4 a5 a6 a7 a8 a9 a10 a11 a12 a13 a14 a15 := by
  unfold wX_breakOff_33
  rcases hf' with ⟨h1, hK, h2, h3, ⟨h, hh, h4, h5⟩, h6, e5, e6, e7, e8, e9, e10, e11⟩ | ⟨h1, hK, h2, h3, h4, h5, h6, e0, e1, e2, e3, e4, e5, e11⟩
  · have hw0 : ¬ w = 0 := fun c => absurd (hs c) (by rw [h1]; decide)
    subst h1 h2 h3 h4
    refine qb_rev (h := 1 - h) hh (by rw [if_neg hw0]) hW hw hj1 hj ho hok (fun c => absurd c hw0) ht (fun PRE sl b9 b10 hP => ?_)
    dsimp only
    rw [qb_h12.2]
    refine nm_e ⟨vp_in_nI (by omega) (by omega), ?_⟩
    rw [nI_clamp (show 0 < 2 ^ 31 by omega)]
    refine nm_e ?_
    unfold wpX_findHead
    dsimp only
    refine br_f ?_ ?_
    · rw [pk_us, pk_un (by decide), e5]
      decide
    unfold wX_findHead_50
    refine qb_fh53 (x := 6) (by omega) ?_
    dsimp only
    rw [pk_un (show (6 : Nat) ≠ 0 by decide), pk_un (show (6 + 1 : Nat) ≠ 0 by decide), pk_un (show (6 + 2 : Nat) ≠ 0 by decide), pk_un (show (6 + 3 : Nat) ≠ 0 by decide), pk_un (show (6 + 4 : Nat) ≠ 0 by decide)]
    rw [e6, show a8 (6 + 1) = nI h from e7, show a8 (6 + 2) = ln from e8, show a8 (6 + 3) = ll from e9, show a8 (6 + 4) = 1 from e10]
    have hl := qb_TX_len (w := w) (j := j) (K := K) (qb_PR_len hP (qb_ox_len K n v k))
    refine qb_load (s := 1) (K := Kf) (z := z) hj1 hj (Or.inl ⟨rfl, hK, rfl, rfl, ⟨h, hh, rfl, qb_fl_keep h5 (fun q q1 q2 => qb_fw_out ?_)⟩, Or.inl rfl, ?_, ?_, ?_, ?_, ?_, ?_, ?_⟩) (fun sl fr fs iu c1 c2 c3 c4 c5 c6 c9 g1 g2 => hp _ _ _ _ _ _ _ _ _ _ _ _ _ _ _ _ _ g1 g2)
    · have C : h = 0 ∨ h = 1 := by omega
      rcases C with e | e
      · subst e
        exact Or.inl (by omega)
      · subst e
        exact Or.inr (by omega)
    · rw [pk_un (by decide)]
      exact e5
    · rw [pk_un (by decide)]
      exact e6
    · rw [pk_un (by decide)]
      exact e7
    · rw [pk_un (by decide)]
      exact e8
    · rw [pk_un (by decide)]
      exact e9
    · rw [pk_un (by decide)]
      exact e10
    · rw [pk_un (by decide)]
      exact e11
  · subst h1 hK h2 h3 h4 h5 h6
    refine qb_rev (h0 := 0) (h := if w = 0 then 0 else 1) (by omega) (by split <;> rfl) hW hw hj1 hj ho hok (fun _ => ⟨rfl, rfl⟩) ht (fun PRE sl b9 b10 hP => ?_)
    dsimp only
    rw [qb_h12.1]
    refine nm_e ⟨vp_in_nI (by omega) (by omega), ?_⟩
    rw [nI_clamp (show 6 < 2 ^ 31 by omega)]
    refine nm_e ?_
    unfold wpX_findHead
    dsimp only
    refine br_t ?_ (br_f ?_ ?_)
    · rw [pk_un (by decide), pk_un (by decide), e0, e5]
    · rw [pk_us, pk_un (by decide), e11]
      decide
    refine qb_fh53 (x := 0) (by omega) ?_
    dsimp only
    rw [pk_un (show (0 : Nat) ≠ 6 by decide), pk_un (show (0 + 1 : Nat) ≠ 6 by decide), pk_un (show (0 + 2 : Nat) ≠ 6 by decide), pk_un (show (0 + 3 : Nat) ≠ 6 by decide), pk_un (show (0 + 4 : Nat) ≠ 6 by decide)]
    rw [e0, show a8 (0 + 1) = 0 from e1, show a8 (0 + 2) = 0 from e2, show a8 (0 + 3) = -1 from e3, show a8 (0 + 4) = 0 from e4]
    refine qb_load (s := 0) (K := 0) (z := z) hj1 hj (Or.inr ⟨rfl, rfl, rfl, rfl, rfl, rfl, rfl, ?_, ?_, ?_, ?_, ?_, ?_, ?_⟩) (fun sl fr fs iu c1 c2 c3 c4 c5 c6 c9 g1 g2 => hp _ _ _ _ _ _ _ _ _ _ _ _ _ _ _ _ _ g1 g2)
    · rw [pk_un (by decide)]
      exact e0
    · rw [pk_un (by decide)]
      exact e1
    · rw [pk_un (by decide)]
      exact e2
    · rw [pk_un (by decide)]
      exact e3
    · rw [pk_un (by decide)]
      exact e4
    · rw [pk_un (by decide)]
      exact e5
    · rw [pk_un (by decide)]
      exact e11
theorem qb_brk {post : Int32 → St2 → Prop} {s : Int32} {j n w : Nat} {K v k Kf z y : Int32} (hj1 : 1 ≤ j) (hj : j ≤ 8) (hw : w ≤ 2) (hf' : qb_FP s j Kf z hn hf ln ll rv iu a7 a8 a9) (ho : qb_ob j K n v k a1 a2 a3 a4) (hok : qb_ok K n k) (hs : w = 0 → s = 0) (ht : w = 0 → ∀ i, 1 ≤ i → i ≤ 8 → (a6 i = 0 ↔ ¬ (i = j ∧ ¬ K = 0)))
    (hp : ∀ sl ap wl ts fr fs iu b1 b2 b3 b4 b5 b6 b7 b8 b9 b10, qb_ob j Kf (qb_nK Kf) z 0 b1 b2 b3 b4 → qb_FP s j Kf z hn hf ln ll rv iu b7 b8 b9 → post rv (hn, hf, ln, ll, rv, sl, ap, wl, ts, fr, fs, iu, b1, b2, b3, b4, b5, b6, b7, b8, b9, b10, a11, a12, a13, a14, a15)) : wpX_breakOff post (hn, hf, ln, ll, rv, sl, ap, wl, ts, fr, fs, iu, a1, a2, a3, a4, a5, a6, a7, a8, a9, a10, a11, a12, a13, a14, a15) (nI w) y := by
  unfold wpX_breakOff
  dsimp only
  refine br_f (nI_pos (by omega)) (br_t (nI_le (b := 2) (by omega) (by omega)) (br_c (fun c1 => br_c (fun c2 => ?_) (fun c2 => ?_)) (fun c1 => ?_)))
  · obtain ⟨W, hW, e⟩ := nI_of2 (x := y) (M := 3700) (n := 3700) (by decide) (by rw [Int32.lt_iff_toInt_lt]; rw [Int32.le_iff_toInt_le] at c1; omega) c2
    rw [e]
    exact qb_brk33 hj1 hj hw hW hf' ho hok hs ht hp
  · exact qb_brk33 (W := 3700) hj1 hj hw (by omega) hf' ho hok hs ht hp
  · exact qb_brk33 (W := 0) hj1 hj hw (by omega) hf' ho hok hs ht hp
theorem qb_savB {post : Int32 → St2 → Prop} {x : Int32} (h : x < 0 ∨ ¬ x ≤ 2) (hp : post (-1) (hn, hf, ln, ll, rv, sl, ap, wl, ts, fr, fs, iu, a1, a2, a3, a4, a5, a6, a7, a8, a9, a10, a11, a12, a13, a14, a15)) : wpX_save post (hn, hf, ln, ll, rv, sl, ap, wl, ts, fr, fs, iu, a1, a2, a3, a4, a5, a6, a7, a8, a9, a10, a11, a12, a13, a14, a15) x := by
  unfold wpX_save
  dsimp only
  rcases h with h | h
  · exact br_t h hp
  · exact br_c (fun _ => hp) (fun _ => br_f h hp)
theorem qb_by_l {T S : List Int32} (h1 : ∀ b, b ∈ T → qb_by b) (h2 : ∀ b, b ∈ S → qb_by b) : ∀ b, b ∈ T ++ S → qb_by b := by
  intro b hb
  rw [List.mem_append] at hb
  rcases hb with hb | hb
  · exact h1 b hb
  · exact h2 b hb
theorem qb_by_c {x : Int32} {S : List Int32} (h1 : qb_by x) (h2 : ∀ b, b ∈ S → qb_by b) : ∀ b, b ∈ x :: S → qb_by b := by
  intro b hb
  rw [List.mem_cons] at hb
  rcases hb with hb | hb
  · rw [hb]
    exact h1
  · exact h2 b hb
theorem qb_by_0 : ∀ b, b ∈ ([] : List Int32) → qb_by b := fun b hb => absurd hb (by simp)
theorem qb_ox_by {K z : Int32} (hK : K = 0 ∨ K = 1) : ∀ b, b ∈ qb_ox K 1 z 0 → qb_by b := by
  rcases hK with e | e
  · subst e
    exact qb_by_0
  · subst e
    unfold qb_ox
    rw [if_neg (by decide)]
    unfold qb_ot
    rw [if_neg (by omega), if_neg (by decide)]
    exact qb_by_c (qb_by_n (n := 49) (by omega)) (qb_by_l (qb_by_c (qb_by_n (n := 35) (by omega)) (qb_by_l (qb_nm_by z) (qb_by_c (qb_by_n (n := 44) (by omega)) qb_by_0))) (qb_by_c (qb_by_n (n := 41) (by omega)) qb_by_0))
theorem qb_en_by {j i : Nat} {K mk : Int32} (hi : i ≤ 8) (hm : qb_by mk) : ∀ b, b ∈ qb_en j K mk i → qb_by b := by
  unfold qb_en
  refine qb_by_c (qb_by_n (by omega)) ?_
  split
  · exact qb_by_c hm (qb_by_c (qb_by_n (n := 48) (by omega)) (qb_by_c (qb_by_n (n := 44) (by omega)) qb_by_0))
  · exact qb_by_c (qb_by_n (n := 45) (by omega)) (qb_by_c (qb_by_n (n := 44) (by omega)) qb_by_0)
theorem qb_es_by {j : Nat} {x1 K mk : Int32} (hm : qb_by mk) : ∀ i, i ≤ 8 → ∀ b, b ∈ qb_es x1 j K mk i → qb_by b := by
  intro i
  induction i with
  | zero =>
    intro _
    exact qb_by_0
  | succ i ih =>
    intro hi
    unfold qb_es
    refine qb_by_l (ih (by omega)) ?_
    split
    · exact qb_by_0
    · exact qb_en_by hi hm
theorem qb_TX_by {w j : Nat} {K z : Int32} {PRE : List Int32} (hw : w ≤ 2) (hK : K = 0 ∨ K = 1) (hP : qb_PR w (qb_ox K 1 z 0) PRE) : ∀ b, b ∈ qb_TX w j K PRE → qb_by b := by
  unfold qb_TX
  refine qb_by_l (qb_by_l ?_ (qb_es_by ?_ 8 (by omega))) (qb_by_c (qb_by_n (n := 80) (by omega)) (qb_by_l (qb_nm_by _) (qb_by_c (qb_by_n (n := 46) (by omega)) qb_by_0)))
  · rcases hP with ⟨_, e⟩ | ⟨_, E, h1, h2, e⟩
    · rw [e]
      exact qb_ox_by hK
    · rw [e]
      exact qb_by_l (qb_nm_by _) (qb_by_c (qb_by_n (n := 58) (by omega)) (qb_ec_by h1 (by rw [h2]; exact qb_ox_by hK)))
  · have C : w = 0 ∨ w = 1 ∨ w = 2 := by omega
    rcases C with e | e | e
    · rw [e]
      exact qb_by_n (n := 43) (by omega)
    · rw [e]
      exact qb_by_n (n := 43) (by omega)
    · rw [e]
      exact qb_by_n (n := 42) (by omega)
theorem qb_sav {post : Int32 → St2 → Prop} {j w : Nat} {K z z' : Int32} (hj1 : 1 ≤ j) (hj : j ≤ 8) (hw : w ≤ 2) (hf' : qb_FP 0 j 0 z' hn hf ln ll rv iu a7 a8 a9) (hK : K = 0 ∨ K = 1) (ho : qb_ob j K (qb_nK K) z 0 a1 a2 a3 a4) (ht : ∀ i, 1 ≤ i → i ≤ 8 → (a6 i = 0 ↔ ¬ (i = j ∧ ¬ K = 0)))
    (hp : ∀ hn hf ln ll rv sl ap wl ts iu b6 b7 b8 b9 b10, qb_FP 1 j K z hn hf ln ll rv iu b7 b8 b9 → post 1 (hn, hf, ln, ll, rv, sl, ap, wl, ts, fr, fs, iu, a1, a2, a3, a4, a5, b6, b7, b8, b9, b10, a11, a12, a13, a14, a15)) : wpX_save post (hn, hf, ln, ll, rv, sl, ap, wl, ts, fr, fs, iu, a1, a2, a3, a4, a5, a6, a7, a8, a9, a10, a11, a12, a13, a14, a15) (nI w) := by
  have hok : qb_ok K (qb_nK K) 0 := by
    rcases hK with e | e
    · rw [e]
      exact ⟨Or.inl rfl, Or.inl rfl⟩
    · rw [e]
      exact ⟨Or.inr (Or.inl rfl), Or.inr ⟨rfl, Or.inl ⟨rfl, rfl⟩⟩⟩
  have hox : qb_ox K (qb_nK K) z 0 = qb_ox K 1 z 0 := by
    rcases hK with e | e
    · rw [e]
      rfl
    · rw [e]
      rfl
  rcases hf' with ⟨h1, _⟩ | ⟨h1, hK0, h2, h3, h4, h5, h6, e0, e1, e2, e3, e4, e5, e11⟩
  · exact absurd h1 (by decide)
  subst h2 h3 h4 h5 h6
  -- behind the text: the head, and nothing is touched
  have L63 : ∀ (h len : Nat) (PRE : List Int32) (b7 b9 b10 : Nat → Int32) (sl wl : Int32), h ≤ 1 → qb_PR w (qb_ox K 1 z 0) PRE → qb_tx (qb_rf b7 h) 0 (qb_TX w j K PRE) → ∀ (rv0 z0 : Int32), z0 = 1 → wX_save_63 post z0 1 (nI h) (nI len) (nI PRE.length) rv0 sl (nI len) wl 0 fr fs 0 a1 a2 a3 a4 a5 a6 b7 a8 b9 b10 a11 a12 a13 a14 a15 := by
    intro h len PRE b7 b9 b10 sl wl hh hP ht rv0 z0 hz0
    subst hz0
    unfold wX_save_63
    unfold wpX_writeHead
    dsimp only
    rw [qb_h12.1]
    refine nm_e (nm_r (e' := 2) (by decide) ⟨vp_in_nI (by omega) (by omega), ?_⟩)
    rw [show nI 6 + 1 = nI 7 from nI_add 6 1, show nI 6 + 2 = nI 8 from nI_add 6 2, show nI 6 + 3 = nI 9 from nI_add 6 3, show nI 6 + 4 = nI 10 from nI_add 6 4, show nI 6 + 5 = nI 11 from nI_add 6 5]
    rw [nI_clamp (show 6 < 2 ^ 31 by omega), nI_clamp (show 7 < 2 ^ 31 by omega), nI_clamp (show 8 < 2 ^ 31 by omega), nI_clamp (show 9 < 2 ^ 31 by omega), nI_clamp (show 10 < 2 ^ 31 by omega), nI_clamp (show 11 < 2 ^ 31 by omega)]
    refine nm_e ⟨vp_in_nI (by omega) (by omega), nm_e ⟨vp_in_nI (by omega) (by omega), nm_e ⟨vp_in_nI (by omega) (by omega), nm_e ⟨vp_in_nI (by omega) (by omega), nm_e ⟨vp_in_nI (by omega) (by omega), nm_e ?_⟩⟩⟩⟩⟩
    refine pk_loop (fun m i (s : Nat → Int32) => wX_save_72 post 2 (nI h) (nI len) (nI PRE.length) 1 sl (nI len) wl 0 fr fs 0 m (nI i) a1 a2 a3 a4 a5 s b7 (upd (upd (upd (upd (upd (upd a8 6 2) 7 (nI h)) 8 (nI len)) 9 (nI PRE.length)) 10 1) 11 2) b9 b10 a11 a12 a13 a14 a15) (fun i _ => 1 ≤ i) 9 1 a6 (by omega) (by omega) (fun m s _ => pk_lt 8 9 (fun _ => hp _ _ _ _ _ _ _ _ _ _ _ _ _ _ _ ?_) (fun c => absurd c (by omega))) (fun m i s hi g1 hw => pk_lt 8 i (fun c => absurd c (by omega)) (fun _ => ⟨vp_in_nI (by omega) (by omega), nm_e (nm_r (nI_1 i) (hw _ (by omega)))⟩))
    refine Or.inl ⟨rfl, hK, rfl, rfl, ⟨h, hh, rfl, w, PRE, hw, hP, rfl, ht⟩, Or.inl rfl, ?_, rfl, rfl, rfl, rfl, rfl, rfl⟩
    exact e5
  have L26 : wX_save_26 post (nI w) 1 0 0 (-1) 0 sl ap wl ts fr fs iu a1 a2 a3 a4 a5 a6 a7 a8 a9 a10 a11 a12 a13 a14 a15 := by
    unfold wX_save_26
    refine qb_rev (W := 3700) (h0 := 0) (h := if w = 0 then 0 else 1) (by omega) (by split <;> rfl) (by omega) hw hj1 hj ho hok (fun _ => ⟨rfl, rfl⟩) (fun _ => ht) (fun PRE sl b9 b10 hP => ?_)
    rw [hox] at hP
    dsimp only
    have hl := qb_TX_len (w := w) (j := j) (K := K) (qb_PR_len hP (qb_ox_len K 1 z 0))
    have hx := qb_fw_tx (A := a7) (h := if w = 0 then 0 else 1) (W := 3700) (by omega) (qb_TX_by (j := j) hw hK hP)
    have hh1 : (if w = 0 then 0 else 1) ≤ 1 := by
      split <;> omega
    exact br_c (fun _ => L63 _ _ _ _ _ _ _ _ hh1 hP hx _ _ (by decide)) (fun _ => L63 _ _ _ _ _ _ _ _ hh1 hP hx _ _ rfl)
  unfold wpX_save
  dsimp only
  exact br_f (nI_pos (by omega)) (br_t (nI_le (b := 2) (by omega) (by omega)) (br_c (fun _ => br_t (by decide) L26) (fun _ => L26)))
end
end
section
section
variable {hn hf ln ll rv sl ap wl ts fr fs iu : Int32} {a1 a2 a3 a4 a5 a6 a7 a8 a9 a10 a11 a12 a13 a14 a15 : Nat → Int32} {post : Int32 → St0 → Prop} {mc ms kc ks : Nat} {x1 x2 x3 x5 x6 x7 x8 x9 x10 x14 x15 x16 x17 z0 z1 : Int32} {j : Nat}
/-- the object's number is good (x8), and then it is j -/
def qb_G (x5 x8 : Int32) (j : Nat) : Prop := (x8 = 1 ∧ x5 = nI j) ∨ (x8 = 0 ∧ qb_bd x5)
/-- what is saved (x14): an object, if its number is good -/
def qb_S (x14 x8 Kf : Int32) : Prop := (x14 = 1 ∧ Kf = x8) ∨ (x14 = 0 ∧ Kf = 0)
theorem qb_G8 (h : qb_G x5 x8 j) : x8 = 0 ∨ x8 = 1 := by
  rcases h with h | h
  · exact Or.inr h.1
  · exact Or.inl h.1
theorem qb_nK0 : qb_nK 0 = 0 := rfl
theorem qb_nK1 : qb_nK 1 = 1 := rfl
theorem qb_z0' (x : Int32) : (0 + (1000 * x) * 0) + 0 = (0 : Int32) := by
  rw [Int32.mul_zero]
  rfl
theorem qb_L1231 {v k : Int32} (hp : post 1 ()) (hj1 : 1 ≤ j) (hj : j ≤ 8) (hz : z1 = z0) (ho : qb_ob j 0 0 v k a1 a2 a3 a4) : wL_lawOf_1231 post mc ms z0 z1 kc ks hn hf ln ll rv sl ap wl ts fr fs iu a1 a2 a3 a4 a5 a6 a7 a8 a9 a10 a11 a12 a13 a14 a15 := by
  unfold wL_lawOf_1231
  refine br_t hz (qb_dig4 hj1 hj (by omega) ho ?_)
  rw [if_neg (by omega), qb_z0']
  exact br_t rfl hp
theorem qb_L1188 {K1 v : Int32} (hp : post 1 ()) (hj1 : 1 ≤ j) (hj : j ≤ 8) (hz : z1 = z0) (hG : qb_G x5 x8 j) (h14 : x14 = 0 ∨ x14 = 1) (hK : (x14 = 1 ∧ x8 = 1 ∧ j = 1 ∧ K1 = 1) ∨ (¬ (x14 = 1 ∧ x8 = 1 ∧ j = 1) ∧ K1 = 0)) (ho : qb_ob j K1 (qb_nK K1) v 0 a1 a2 a3 a4) : wL_lawOf_1188 post mc ms x5 x8 x14 z0 z1 kc ks hn hf ln ll rv sl ap wl ts fr fs iu a1 a2 a3 a4 a5 a6 a7 a8 a9 a10 a11 a12 a13 a14 a15 := by
  have hK01 : K1 = 0 ∨ K1 = 1 := by
    rcases hK with h | h
    · exact Or.inr h.2.2.2
    · exact Or.inl h.2
  unfold wL_lawOf_1188
  refine br_t hz (qb_swe hj1 hj hK01 ho (fun _ => ?_) (fun e1 e2 => ?_))
  · dsimp only
    refine br_t rfl ?_
    rcases hG with ⟨g8, g5⟩ | ⟨g8, g5⟩
    · subst g8 g5
      have e1 := ho.1 j hj1 hj
      rw [if_pos rfl] at e1
      refine qb_remY hj1 hj ?_
      dsimp only
      rw [e1]
      refine br_f (by decide) ?_
      have hr := qb_ob_rem ho
      rcases hK with ⟨h1, _, h3, h4⟩ | ⟨h1, h4⟩
      · subst h1 h3 h4
        exact br_f (by decide) (br_t rfl (qb_L1231 hp hj1 hj rfl hr))
      · subst h4
        refine br_c (fun _ => ?_) (fun c => br_f ?_ ?_)
        · unfold wL_lawOf_1226
          exact qb_L1231 hp hj1 hj rfl hr
        · intro c2
          rw [show (1 : Int32) = nI 1 from rfl, nI_eq (by omega) (by omega)] at c2
          rcases h14 with e | e
          · exact c e
          · exact h1 ⟨e, rfl, c2⟩
        · unfold wL_lawOf_1226
          exact qb_L1231 hp hj1 hj rfl hr
    · subst g8
      have e0 : K1 = 0 := by
        rcases hK with h | h
        · exact absurd h.2.1 (by decide)
        · exact h.2
      subst e0
      refine qb_remB g5 ?_
      dsimp only
      exact br_t rfl (qb_L1231 hp hj1 hj rfl ho)
  · rcases hK with h | h
    · exact absurd h.2.2.1 e2
    · rw [h.2] at e1
      exact absurd e1 (by decide)
theorem qb_L1157 {Kf v : Int32} (hp : post 1 ()) (hj1 : 1 ≤ j) (hj : j ≤ 8) (hz : z1 = z0) (hG : qb_G x5 x8 j) (hS : qb_S x14 x8 Kf) (ho : qb_ob j Kf (qb_nK Kf) v 0 a1 a2 a3 a4) : wL_lawOf_1157 post mc ms x5 x8 x14 z0 z1 kc ks hn hf ln ll rv sl ap wl ts fr fs iu a1 a2 a3 a4 a5 a6 a7 a8 a9 a10 a11 a12 a13 a14 a15 := by
  have h8 := qb_G8 hG
  have h14 : x14 = 0 ∨ x14 = 1 := by
    rcases hS with h | h
    · exact Or.inr h.1
    · exact Or.inl h.1
  have hK01 : Kf = 0 ∨ Kf = 1 := by
    rcases hS with h | h
    · rw [h.2]
      exact h8
    · exact Or.inl h.2
  unfold wL_lawOf_1157
  refine br_t hz (qb_swe hj1 hj hK01 ho (fun c => ?_) (fun e1 e2 b1 b2 b6 hb => ?_))
  · dsimp only
    have hK : (x14 = 1 ∧ x8 = 1 ∧ j = 1 ∧ Kf = 1) ∨ (¬ (x14 = 1 ∧ x8 = 1 ∧ j = 1) ∧ Kf = 0) := by
      rcases hS with ⟨h1, h2⟩ | ⟨h1, h2⟩
      · rcases h8 with e | e
        · exact Or.inr ⟨fun q => absurd q.2.1 (by rw [e]; decide), by rw [h2, e]⟩
        · rcases c with c | c
          · rw [h2, e] at c
            exact absurd c (by decide)
          · exact Or.inl ⟨h1, e, c, by rw [h2, e]⟩
      · exact Or.inr ⟨fun q => absurd q.1 (by rw [h1]; decide), h2⟩
    have G : wL_lawOf_1187 post mc ms x5 x8 x14 0 kc ks hn hf ln ll rv sl ap wl ts fr fs iu a1 a2 a3 a4 a5 a6 a7 a8 a9 a10 a11 a12 a13 a14 a15 := by
      unfold wL_lawOf_1187
      exact qb_L1188 hp hj1 hj rfl hG h14 hK ho
    refine br_c (fun _ => G) (fun q1 => br_c (fun _ => G) (fun q2 => br_t ?_ G))
    rcases hK with h | h
    · rcases hG with g | g
      · rw [g.2, h.2.2.1]
        rfl
      · exact absurd g.1 q2
    · exfalso
      rcases hS with ⟨h1, h2⟩ | ⟨h1, h2⟩
      · rw [← h2] at q2
        exact q2 h.2
      · exact q1 h1
  · dsimp only
    rcases hS with ⟨h1, h2⟩ | ⟨h1, h2⟩
    · rw [h2] at e1
      rcases hG with g | g
      · refine br_f (by rw [h1]; decide) (br_f (by rw [e1]; decide) (br_f ?_ ?_))
        · rw [g.2, show (1 : Int32) = nI 1 from rfl, nI_eq (by omega) (by omega)]
          exact e2
        · exact qb_L1188 (K1 := 0) hp hj1 hj rfl (Or.inl g) h14 (Or.inr ⟨fun q => e2 q.2.2, rfl⟩) hb
      · rw [g.1] at e1
        exact absurd e1 (by decide)
    · rw [h2] at e1
      exact absurd e1 (by decide)
theorem qb_L1128 {Kf v : Int32} (hp : post 1 ()) (hj1 : 1 ≤ j) (hj : j ≤ 8) (hz : z1 = z0) (hG : qb_G x5 x8 j) (hS : qb_S x14 x8 Kf) (ho : qb_ob j Kf (qb_nK Kf) v 0 a1 a2 a3 a4) : wL_lawOf_1128 post mc ms x5 x8 x14 z0 z1 kc ks hn hf ln ll rv sl ap wl ts fr fs iu a1 a2 a3 a4 a5 a6 a7 a8 a9 a10 a11 a12 a13 a14 a15 := by
  unfold wL_lawOf_1128
  refine br_t hz ?_
  rcases hG with ⟨g8, g5⟩ | ⟨g8, g5⟩
  · have e1 := ho.1 j hj1 hj
    rw [if_pos rfl] at e1
    have hG : qb_G x5 x8 j := Or.inl ⟨g8, g5⟩
    rw [g5]
    refine qb_kindY hj1 hj ?_
    rw [e1, ← g5]
    refine br_f (by rw [g8]; decide) ?_
    rcases hS with ⟨h1, h2⟩ | ⟨h1, h2⟩
    · exact br_f (by rw [h1]; decide) (qb_L1157 hp hj1 hj (by rw [h2, g8]) hG (Or.inl ⟨h1, h2⟩) ho)
    · exact br_t h1 (qb_L1157 hp hj1 hj h2 hG (Or.inr ⟨h1, h2⟩) ho)
  · exact qb_kindN g5 (br_t g8 (qb_L1157 hp hj1 hj rfl (Or.inr ⟨g8, g5⟩) hS ho))
theorem qb_FPrv {s K z : Int32} (h : qb_FP s j K z hn hf ln ll rv iu a7 a8 a9) : rv = s ∧ (s = 0 ∨ s = 1) := by
  rcases h with h | h
  · exact ⟨by rw [h.1, h.2.2.2.1], Or.inr h.1⟩
  · exact ⟨by rw [h.1, h.2.2.2.1], Or.inl h.1⟩
theorem qb_L1108 {Kf K v k : Int32} {n : Nat} (hp : post 1 ()) (hj1 : 1 ≤ j) (hj : j ≤ 8) (hz : z1 = z0) (hG : qb_G x5 x8 j) (hS : qb_S x14 x8 Kf) (hF : qb_FP x14 j Kf x2 hn hf ln ll rv iu a7 a8 a9) (ho : qb_ob j K n v k a1 a2 a3 a4) (hok : qb_ok K n k) : wL_lawOf_1108 post mc ms x2 x5 x8 x14 z0 z1 kc ks hn hf ln ll rv sl ap wl ts fr fs iu a1 a2 a3 a4 a5 a6 a7 a8 a9 a10 a11 a12 a13 a14 a15 := by
  have hr := (qb_FPrv hF).1
  unfold wL_lawOf_1108
  refine br_t hz (qb_brk (w := 2) hj1 hj (by omega) hF ho hok (fun c => absurd c (by omega)) (fun c => absurd c (by omega)) (fun sl ap wl ts fr fs iu b1 b2 b3 b4 b5 b6 b7 b8 b9 b10 g1 g2 => ?_))
  dsimp only
  refine br_c (fun c => qb_L1128 hp hj1 hj (by rw [hr, c]) hG hS g1) (fun c => qb_L1128 hp hj1 hj ?_ hG hS g1)
  rw [hr]
  rcases (qb_FPrv hF).2 with e | e
  · exact absurd e c
  · exact e
theorem qb_L1079 {Kf K v k : Int32} {n : Nat} (hp : post 1 ()) (hj1 : 1 ≤ j) (hj : j ≤ 8) (hG : qb_G x5 x8 j) (hS : qb_S x14 x8 Kf) (hF : qb_FP x14 j Kf x2 hn hf ln ll rv iu a7 a8 a9) (ho : qb_ob j K n v k a1 a2 a3 a4) (hok : qb_ok K n k) : wL_lawOf_1079 post mc ms x2 x3 x5 x8 x14 kc ks hn hf ln ll rv sl ap wl ts fr fs iu a1 a2 a3 a4 a5 a6 a7 a8 a9 a10 a11 a12 a13 a14 a15 := by
  obtain ⟨hr, h14⟩ := qb_FPrv hF
  unfold wL_lawOf_1079
  by_cases hc : x14 = 1 ∧ x3 = 0
  · obtain ⟨c1, c2⟩ := hc
    subst c1 c2
    have hKf : Kf = x8 := by
      rcases hS with h | h
      · exact h.2
      · exact absurd h.1 (by decide)
    have hokf : qb_ok Kf (qb_nK Kf) 0 := by
      rcases qb_FP_K hF with e | e
      · rw [e]
        exact ⟨Or.inl rfl, Or.inl rfl⟩
      · rw [e]
        exact ⟨Or.inr (Or.inl rfl), Or.inr ⟨rfl, Or.inl ⟨rfl, rfl⟩⟩⟩
    refine qb_op0 hj1 hj hF (fun sl fr fs iu b1 b2 b3 b4 b5 b6 b9 g1 g2 => ?_)
    dsimp only
    refine br_f (by decide) (br_t rfl (br_c (fun c => qb_L1108 hp hj1 hj ?_ hG hS g2 g1 hokf) (fun c => qb_L1108 hp hj1 hj ?_ hG hS g2 g1 hokf)))
    · rw [hKf, c]
      rfl
    · rcases qb_G8 hG with e | e
      · exact absurd e c
      · rw [hKf, e]
        rfl
  · have G : wL_lawOf_1107 post mc ms x2 x5 x8 x14 (-1) kc ks hn hf ln ll rv sl ap wl ts fr fs iu a1 a2 a3 a4 a5 a6 a7 a8 a9 a10 a11 a12 a13 a14 a15 := by
      unfold wL_lawOf_1107
      exact qb_L1108 hp hj1 hj rfl hG hS hF ho hok
    refine qb_opB ?_ ?_
    · by_cases q : x3 < 0
      · exact Or.inl q
      · refine Or.inr (fun q2 => hc ?_)
        rw [hr] at q2
        rcases h14 with e | e
        · rw [e] at q2
          exact absurd q2 q
        · refine ⟨e, ?_⟩
          rw [e] at q2
          rw [Int32.lt_iff_toInt_lt] at q q2
          apply Int32.toInt_inj.mp
          have t1 : (1 : Int32).toInt = 1 := by decide
          have t0 : (0 : Int32).toInt = 0 := by decide
          rw [t0] at q ⊢
          rw [t1] at q2
          omega
    · dsimp only
      refine br_c (fun _ => G) (fun c => br_f (fun c3 => hc ⟨?_, c3⟩) G)
      rcases h14 with e | e
      · exact absurd e c
      · exact e
theorem qb_L1035 {Kf K v k : Int32} {n : Nat} (hp : post 1 ()) (hj1 : 1 ≤ j) (hj : j ≤ 8) (hz : z1 = z0) (hG : qb_G x5 x8 j) (hS : qb_S x14 x8 Kf) (hF : qb_FP x14 j Kf x2 hn hf ln ll rv iu a7 a8 a9) (ho : qb_ob j K n v k a1 a2 a3 a4) (hok : qb_ok K n k) (hx : ¬ x17 = 0 → x8 = 1 ∧ K = x7 ∧ n = 0) : wL_lawOf_1035 post mc ms x2 x3 x5 x7 x8 x14 x17 z0 z1 kc ks hn hf ln ll rv sl ap wl ts fr fs iu a1 a2 a3 a4 a5 a6 a7 a8 a9 a10 a11 a12 a13 a14 a15 := by
  have H := qb_L1079 (mc := mc) (ms := ms) (kc := kc) (ks := ks) (x3 := x3) (sl := sl) (ap := ap) (wl := wl) (ts := ts) (fr := fr) (fs := fs) (a5 := a5) (a6 := a6) (a10 := a10) (a11 := a11) (a12 := a12) (a13 := a13) (a14 := a14) (a15 := a15) hp hj1 hj hG hS hF ho hok
  unfold wL_lawOf_1035
  refine br_t hz (br_c (fun _ => H) (fun c => ?_))
  obtain ⟨q1, q2, q3⟩ := hx c
  have e1 := ho.1 j hj1 hj
  have e2 := ho.2.1 j hj1 hj
  rw [if_pos rfl] at e1 e2
  rw [q3] at e2
  rcases hG with g | g
  · rw [g.2] at H ⊢
    refine qb_kindY hj1 hj (br_t (by rw [e1, q2]) (qb_sizeY hj1 hj (br_t (by rw [e2]; rfl) (qb_popN hj1 hj e2 ?_))))
    dsimp only
    exact br_t rfl H
  · rw [g.1] at q1
    exact absurd q1 (by decide)
theorem qb_G_of (hG : qb_G x5 x8 j) (hj1 : 1 ≤ j) (hj : j ≤ 8) : ¬ qb_bd x5 → ∃ j, 1 ≤ j ∧ j ≤ 8 ∧ x5 = nI j := fun h => qb_bd_of h
theorem qb_L1013 {Kf K v k : Int32} {n : Nat} (hp : post 1 ()) (hj1 : 1 ≤ j) (hj : j ≤ 8) (hG : qb_G x5 x8 j) (hS : qb_S x14 x8 Kf) (hF : qb_FP x14 j Kf x2 hn hf ln ll rv iu a7 a8 a9) (ho : qb_ob j K n v k a1 a2 a3 a4) (hok : qb_ok K n k) (hz : (z0 = 0 ∧ (x8 = 0 ∨ x7 < 2 ∨ 4 < x7)) ∨ (z0 = 1 ∧ x8 = 1 ∧ ¬ x7 < 2 ∧ ¬ 4 < x7 ∧ x16 = K)) : wL_lawOf_1013 post mc ms x2 x3 x5 x7 x8 x14 x16 z0 kc ks hn hf ln ll rv sl ap wl ts fr fs iu a1 a2 a3 a4 a5 a6 a7 a8 a9 a10 a11 a12 a13 a14 a15 := by
  unfold wL_lawOf_1013
  rcases hz with ⟨h0, h⟩ | ⟨h0, h1, h2, h3, h4⟩
  · refine qb_begB ?_ (qb_G_of hG hj1 hj) ?_
    · rcases h with h | h
      · rcases hG with g | g
        · rw [g.1] at h
          exact absurd h (by decide)
        · exact Or.inl g.2
      · exact Or.inr h
    · dsimp only
      exact br_t h0 (qb_L1035 hp hj1 hj rfl hG hS hF ho hok (fun c => absurd h0 c))
  · rcases hG with g | g
    · have hG : qb_G x5 x8 j := Or.inl g
      have hx7 : x7 = 2 ∨ x7 = 3 ∨ x7 = 4 := by
        rw [Int32.lt_iff_toInt_lt] at h2 h3
        have t2 : (2 : Int32).toInt = 2 := by decide
        have t4 : (4 : Int32).toInt = 4 := by decide
        rw [t2] at h2
        rw [t4] at h3
        have C : x7.toInt = 2 ∨ x7.toInt = 3 ∨ x7.toInt = 4 := by omega
        rcases C with e | e | e
        · exact Or.inl (Int32.toInt_inj.mp e)
        · exact Or.inr (Or.inl (Int32.toInt_inj.mp e))
        · exact Or.inr (Or.inr (Int32.toInt_inj.mp e))
      have hok7 : qb_ok x7 0 k := by
        refine ⟨?_, Or.inl rfl⟩
        rcases hx7 with e | e | e <;> rw [e] <;> decide
      have K' : ∀ b1 b2 b6, qb_ob j x7 0 v k b1 b2 a3 a4 → wL_lawOf_1035 post mc ms x2 x3 x5 x7 x8 x14 z0 x16 K kc ks hn hf ln ll rv sl ap wl ts fr fs iu b1 b2 a3 a4 a5 b6 a7 a8 a9 a10 a11 a12 a13 a14 a15 := fun b1 b2 b6 hb => qb_L1035 hp hj1 hj h4.symm hG hS hF hb hok7 (fun _ => ⟨h1, rfl, rfl⟩)
      have e5 := g.2
      rw [e5] at K' ⊢
      refine qb_begY hj1 hj h2 h3 ho (fun b1 b2 b6 hb => ?_)
      dsimp only
      exact br_f (by rw [h0]; decide) (K' b1 b2 b6 hb)
    · rw [g.1] at h1
      exact absurd h1 (by decide)
theorem qb_L989 {Kf K v k : Int32} {n : Nat} (hp : post 1 ()) (hj1 : 1 ≤ j) (hj : j ≤ 8) (hG : qb_G x5 x8 j) (hS : qb_S x14 x8 Kf) (hF : qb_FP x14 j Kf x2 hn hf ln ll rv iu a7 a8 a9) (ho : qb_ob j K n v k a1 a2 a3 a4) (hok : qb_ok K n k) (hz : ¬ x8 = 0 → z0 = K) : wL_lawOf_989 post mc ms x2 x3 x5 x7 x8 x14 z0 kc ks hn hf ln ll rv sl ap wl ts fr fs iu a1 a2 a3 a4 a5 a6 a7 a8 a9 a10 a11 a12 a13 a14 a15 := by
  unfold wL_lawOf_989
  have G : (x8 = 0 ∨ x7 < 2 ∨ 4 < x7) → wL_lawOf_1012 post mc ms x2 x3 x5 x7 x8 x14 z0 kc ks hn hf ln ll rv sl ap wl ts fr fs iu a1 a2 a3 a4 a5 a6 a7 a8 a9 a10 a11 a12 a13 a14 a15 := by
    intro h
    unfold wL_lawOf_1012
    exact qb_L1013 hp hj1 hj hG hS hF ho hok (Or.inl ⟨rfl, h⟩)
  refine br_c (fun c => G (Or.inl c)) (fun c => br_c (fun c2 => G (Or.inr (Or.inl c2))) (fun c2 => br_c (fun c3 => G (Or.inr (Or.inr c3))) (fun c3 => qb_L1013 hp hj1 hj hG hS hF ho hok (Or.inr ⟨rfl, ?_, c2, c3, hz c⟩))))
  rcases qb_G8 hG with e | e
  · exact absurd e c
  · exact e
theorem qb_L973 {Kf K v k : Int32} {n : Nat} (hp : post 1 ()) (hj1 : 1 ≤ j) (hj : j ≤ 8) (hG : qb_G x5 x8 j) (hS : qb_S x14 x8 Kf) (hF : qb_FP x14 j Kf x2 hn hf ln ll rv iu a7 a8 a9) (ho : qb_ob j K n v k a1 a2 a3 a4) (hok : qb_ok K n k) : wL_lawOf_973 post mc ms x2 x3 x5 x7 x8 x14 kc ks hn hf ln ll rv sl ap wl ts fr fs iu a1 a2 a3 a4 a5 a6 a7 a8 a9 a10 a11 a12 a13 a14 a15 := by
  unfold wL_lawOf_973
  refine br_c (fun c => qb_L989 hp hj1 hj hG hS hF ho hok (fun c2 => absurd c c2)) (fun c => ?_)
  have e1 := ho.1 j hj1 hj
  rw [if_pos rfl] at e1
  have H : wL_lawOf_989 post mc ms x2 x3 x5 x7 x8 x14 K kc ks hn hf ln ll rv sl ap wl ts fr fs iu a1 a2 a3 a4 a5 a6 a7 a8 a9 a10 a11 a12 a13 a14 a15 := qb_L989 hp hj1 hj hG hS hF ho hok (fun _ => rfl)
  rcases hG with g | g
  · rw [g.2] at H ⊢
    refine qb_kindY hj1 hj ?_
    rw [e1]
    exact H
  · exact absurd g.1 c
theorem qb_L927 {Kf K v k : Int32} {n : Nat} (hp : post 1 ()) (hj1 : 1 ≤ j) (hj : j ≤ 8) (hz : z1 = z0) (hG : qb_G x5 x8 j) (hS : qb_S x14 x8 Kf) (hF : qb_FP x14 j Kf x2 hn hf ln ll rv iu a7 a8 a9) (ho : qb_ob j K n v k a1 a2 a3 a4) (hok : qb_ok K n k) (hs : x14 = 1 → x8 = 1 → K = 1 ∧ n = 1 ∧ v = x2 ∧ k = 0) : wL_lawOf_927 post mc ms x2 x3 x5 x7 x8 x14 z0 z1 kc ks hn hf ln ll rv sl ap wl ts fr fs iu a1 a2 a3 a4 a5 a6 a7 a8 a9 a10 a11 a12 a13 a14 a15 := by
  have H := qb_L973 (mc := mc) (ms := ms) (kc := kc) (ks := ks) (x3 := x3) (x7 := x7) (sl := sl) (ap := ap) (wl := wl) (ts := ts) (fr := fr) (fs := fs) (a5 := a5) (a6 := a6) (a10 := a10) (a11 := a11) (a12 := a12) (a13 := a13) (a14 := a14) (a15 := a15) hp hj1 hj hG hS hF ho hok
  unfold wL_lawOf_927
  refine br_t hz (br_c (fun _ => H) (fun c => br_c (fun _ => H) (fun c2 => ?_)))
  have c14 : x14 = 1 := by
    rcases (qb_FPrv hF).2 with e | e
    · exact absurd e c
    · exact e
  have c8 : x8 = 1 := by
    rcases qb_G8 hG with e | e
    · exact absurd e c2
    · exact e
  obtain ⟨q1, q2, q3, q4⟩ := hs c14 c8
  subst q1 q2 q3 q4
  have hKf : Kf = 1 := by
    rcases hS with h | h
    · rw [h.2, c8]
    · exact absurd h.1 c
  subst hKf
  have e1 := ho.1 j hj1 hj
  have e2 := ho.2.1 j hj1 hj
  rw [if_pos rfl] at e1 e2
  obtain ⟨e3, e4⟩ := ho.2.2 rfl
  rcases hG with g | g
  · have hG : qb_G x5 x8 j := Or.inl g
    have H2 : wpX_changed (fun r u => match u with | (hn', hf', ln', ll', rv', sl', ap', wl', ts', fr', fs', iu', a1', a2', a3', a4', a5', a6', a7', a8', a9', a10', a11', a12', a13', a14', a15') => ((r = 0 → wL_lawOf_973 post mc ms v x3 x5 x7 x8 x14 kc ks hn' hf' ln' ll' rv' sl' ap' wl' ts' fr' fs' iu' a1' a2' a3' a4' a5' a6' a7' a8' a9' a10' a11' a12' a13' a14' a15') ∧ (¬ r = 0 → post 0 ()))) (hn, hf, ln, ll, rv, sl, ap, wl, ts, fr, fs, iu, a1, a2, a3, a4, a5, a6, a7, a8, a9, a10, a11, a12, a13, a14, a15) := by
      refine qb_chg hj1 hj (by omega) hF ho (fun _ => ⟨rfl, fun _ => ⟨rfl, rfl⟩⟩) (fun sl fr fs iu b1 b2 b3 b4 b5 b6 b9 b11 b12 b13 b14 b15 g1 g2 g3 => ?_)
      dsimp only
      exact br_t (if_pos rfl) (qb_L973 hp hj1 hj hG hS g2 g1 hok)
    rw [g.2] at H2 ⊢
    exact qb_kindY hj1 hj (br_t e1 (qb_val1 hj1 hj e2 (br_t e3 H2)))
  · exact absurd g.1 c2
theorem qb_okf {Kf : Int32} (h : Kf = 0 ∨ Kf = 1) : qb_ok Kf (qb_nK Kf) 0 := by
  rcases h with e | e
  · rw [e]
    exact ⟨Or.inl rfl, Or.inl rfl⟩
  · rw [e]
    exact ⟨Or.inr (Or.inl rfl), Or.inr ⟨rfl, Or.inl ⟨rfl, rfl⟩⟩⟩
theorem qb_L899 {Kf K v k : Int32} {n : Nat} (hp : post 1 ()) (hj1 : 1 ≤ j) (hj : j ≤ 8) (hz : z1 = z0) (hG : qb_G x5 x8 j) (hS : qb_S x14 x8 Kf) (hF : qb_FP x14 j Kf x2 hn hf ln ll rv iu a7 a8 a9) (ho : qb_ob j K n v k a1 a2 a3 a4) (hok : qb_ok K n k) : wL_lawOf_899 post mc ms x2 x3 x5 x7 x8 x14 z0 z1 kc ks hn hf ln ll rv sl ap wl ts fr fs iu a1 a2 a3 a4 a5 a6 a7 a8 a9 a10 a11 a12 a13 a14 a15 := by
  obtain ⟨hr, h14⟩ := qb_FPrv hF
  unfold wL_lawOf_899
  refine br_t hz ?_
  rcases h14 with e | e
  · refine qb_opB (Or.inr (by rw [hr, e]; decide)) ?_
    dsimp only
    exact br_t e (qb_L927 hp hj1 hj rfl hG hS hF ho hok (fun c => absurd c (by rw [e]; decide)))
  · subst e
    have hKf : Kf = x8 := by
      rcases hS with h | h
      · exact h.2
      · exact absurd h.1 (by decide)
    have hokf := qb_okf (qb_FP_K hF)
    refine qb_op0 hj1 hj hF (fun sl fr fs iu b1 b2 b3 b4 b5 b6 b9 g1 g2 => ?_)
    dsimp only
    refine br_f (by decide) (br_c (fun c => qb_L927 hp hj1 hj ?_ hG hS g2 g1 hokf (fun _ c2 => absurd c2 (by rw [c]; decide))) (fun c => qb_L927 hp hj1 hj ?_ hG hS g2 g1 hokf (fun _ c2 => ⟨?_, ?_, rfl, rfl⟩)))
    · rw [hKf, c]
      rfl
    · rcases qb_G8 hG with e | e
      · exact absurd e c
      · rw [hKf, e]
        rfl
    · rw [hKf, c2]
    · rw [hKf, c2]
      rfl
end
end
section
section
variable {hn hf ln ll rv sl ap wl ts fr fs iu : Int32} {a1 a2 a3 a4 a5 a6 a7 a8 a9 a10 a11 a12 a13 a14 a15 : Nat → Int32} {post : Int32 → St0 → Prop} {mc ms kc ks : Nat} {x1 x2 x3 x5 x6 x7 x8 x9 x10 x12 x14 x15 x16 x17 z0 z1 : Int32} {j t : Nat}
/-- behind setLink: a link (x15), or what was there before -/
def qb_D (x15 x8 x6 x2 K : Int32) (n : Nat) (v k : Int32) : Prop := (x15 = 1 ∧ x8 = 1 ∧ K = 5 ∧ n = 1 ∧ v = x6 ∧ k = 2) ∨ (x15 = 0 ∧ K = x8 ∧ n = qb_nK x8 ∧ v = x2 ∧ k = 0)
theorem qb_D_ok {K v k : Int32} {n : Nat} (h8 : x8 = 0 ∨ x8 = 1) (h : qb_D x15 x8 x6 x2 K n v k) : qb_ok K n k ∧ n ≤ 1 := by
  rcases h with ⟨_, _, h1, h2, _, h4⟩ | ⟨_, h1, h2, _, h4⟩
  · subst h1 h2 h4
    exact ⟨⟨Or.inr (Or.inr (Or.inr (Or.inr (Or.inr rfl)))), Or.inr ⟨rfl, Or.inr ⟨rfl, rfl⟩⟩⟩, by omega⟩
  · subst h1 h2 h4
    refine ⟨qb_okf h8, ?_⟩
    rcases h8 with e | e <;> rw [e] <;> decide
theorem qb_L866 {Kf K v k : Int32} {n : Nat} (hp : post 1 ()) (hj1 : 1 ≤ j) (hj : j ≤ 8) (hG : qb_G x5 x8 j) (hS : qb_S x14 x8 Kf) (hF : qb_FP x14 j Kf x2 hn hf ln ll rv iu a7 a8 a9) (ho : qb_ob j K n v k a1 a2 a3 a4) (hD : qb_D x15 x8 x6 x2 K n v k) : wL_lawOf_866 post mc ms x2 x3 x5 x7 x8 x14 x15 kc ks hn hf ln ll rv sl ap wl ts fr fs iu a1 a2 a3 a4 a5 a6 a7 a8 a9 a10 a11 a12 a13 a14 a15 := by
  have h8 := qb_G8 hG
  obtain ⟨hok, hn1⟩ := qb_D_ok h8 hD
  have h14 := (qb_FPrv hF).2
  unfold wL_lawOf_866
  refine qb_chg hj1 hj hn1 hF ho (fun e => ?_) (fun sl fr fs iu b1 b2 b3 b4 b5 b6 b9 b11 b12 b13 b14 b15 g1 g2 g3 => ?_)
  · rcases hD with ⟨d1, d2, d3, d4, d5, d6⟩ | ⟨d1, d2, d3, d4, d5⟩
    · rw [d3] at e
      rcases qb_FP_K hF with q | q
      · rw [q] at e
        exact absurd e (by decide)
      · rw [q] at e
        exact absurd e (by decide)
    · rw [← e, d2]
      exact ⟨d3, fun _ => ⟨d4, d5⟩⟩
  · dsimp only
    rcases hS with ⟨s1, s2⟩ | ⟨s1, s2⟩
    · refine br_f (by rw [s1]; decide) ?_
      rcases hD with ⟨d1, d2, d3, d4, d5, d6⟩ | ⟨d1, d2, d3, d4, d5⟩
      · refine br_f (by rw [d1]; decide) (qb_L899 hp hj1 hj ?_ hG (Or.inl ⟨s1, s2⟩) g2 g1 hok)
        rw [if_neg]
        rw [d3, s2, d2]
        decide
      · refine br_t d1 (qb_L899 hp hj1 hj ?_ hG (Or.inl ⟨s1, s2⟩) g2 g1 hok)
        rw [if_pos]
        rw [d2, s2]
    · refine br_t s1 (br_c (fun c => qb_L899 hp hj1 hj ?_ hG (Or.inr ⟨s1, s2⟩) g2 g1 hok) (fun c => qb_L899 hp hj1 hj ?_ hG (Or.inr ⟨s1, s2⟩) g2 g1 hok))
      · rw [if_pos]
        rcases hD with ⟨d1, d2, _⟩ | ⟨d1, d2, _⟩
        · rw [d2] at c
          exact absurd c (by decide)
        · rw [d2, c, s2]
      · rw [if_neg]
        rcases hD with ⟨d1, d2, d3, _⟩ | ⟨d1, d2, _⟩
        · rw [d3, s2]
          decide
        · rw [d2, s2]
          exact c
theorem qb_L808 {Kf K v k : Int32} {n : Nat} (hp : post 1 ()) (hj1 : 1 ≤ j) (hj : j ≤ 8) (t1 : 1 ≤ t) (t2 : t ≤ 8) (hz : z1 = z0) (hG : qb_G x5 x8 j) (hT : x15 = 1 → x6 = nI t) (hS : qb_S x14 x8 Kf) (hF : qb_FP x14 j Kf x2 hn hf ln ll rv iu a7 a8 a9) (ho : qb_ob j K n v k a1 a2 a3 a4) (hD : qb_D x15 x8 x6 x2 K n v k) : wL_lawOf_808 post mc ms x2 x3 x5 x6 x7 x8 x14 x15 z0 z1 kc ks hn hf ln ll rv sl ap wl ts fr fs iu a1 a2 a3 a4 a5 a6 a7 a8 a9 a10 a11 a12 a13 a14 a15 := by
  have H := qb_L866 (mc := mc) (ms := ms) (kc := kc) (ks := ks) (x3 := x3) (x7 := x7) (sl := sl) (ap := ap) (wl := wl) (ts := ts) (fr := fr) (fs := fs) (a5 := a5) (a6 := a6) (a10 := a10) (a11 := a11) (a12 := a12) (a13 := a13) (a14 := a14) (a15 := a15) hp hj1 hj hG hS hF ho hD
  unfold wL_lawOf_808
  refine br_t hz (br_c (fun _ => H) (fun c => ?_))
  rcases hD with ⟨d1, d2, d3, d4, d5, d6⟩ | ⟨d1, _⟩
  · have ht := hT d1
    subst d3 d4 d5 d6
    have e1 := ho.1 j hj1 hj
    have e2 := ho.2.1 j hj1 hj
    rw [if_pos rfl] at e1 e2
    obtain ⟨e3, e4⟩ := ho.2.2 rfl
    have hres : t = j ∨ a1 t = 0 := by
      by_cases q : t = j
      · exact Or.inl q
      · refine Or.inr ?_
        rw [ho.1 t t1 t2, if_neg q]
    rcases hG with g | g
    · rw [g.2] at H ⊢
      exact qb_val1 hj1 hj e2 (br_t e3 (qb_vk1 hj1 hj e2 (br_t e4 (qb_resL hj1 hj t1 t2 e1 (by rw [e3, ht]) hres (br_t rfl (qb_sizeY hj1 hj (br_t (by rw [e2]; rfl) H)))))))
    · rw [g.1] at d2
      exact absurd d2 (by decide)
  · exact absurd d1 c
theorem qb_L779 {Kf K v k : Int32} {n : Nat} (hp : post 1 ()) (hj1 : 1 ≤ j) (hj : j ≤ 8) (t1 : 1 ≤ t) (t2 : t ≤ 8) (hz : z1 = z0) (hG : qb_G x5 x8 j) (hG9 : qb_G x6 x9 t) (h15 : x15 = 1 → x9 = 1) (hS : qb_S x14 x8 Kf) (hF : qb_FP x14 j Kf x2 hn hf ln ll rv iu a7 a8 a9) (ho : qb_ob j K n v k a1 a2 a3 a4) (hD : qb_D x15 x8 x6 x2 K n v k) : wL_lawOf_779 post mc ms x2 x3 x5 x6 x7 x8 x9 x14 x15 z0 z1 kc ks hn hf ln ll rv sl ap wl ts fr fs iu a1 a2 a3 a4 a5 a6 a7 a8 a9 a10 a11 a12 a13 a14 a15 := by
  have hT : x15 = 1 → x6 = nI t := by
    intro e
    rcases hG9 with g | g
    · exact g.2
    · rw [h15 e] at g
      exact absurd g.1 (by decide)
  unfold wL_lawOf_779
  refine br_t hz ?_
  rcases hG9 with ⟨g9, g6⟩ | ⟨g9, g6⟩
  · have H : ∀ r, r = (if n = 1 ∧ k = 2 ∧ v = nI t then (1 : Int32) else 0) → ((x9 = 0 → wL_lawOf_808 post mc ms x2 x3 x5 x6 x7 x8 x14 x15 (-1) r kc ks hn hf ln ll rv sl ap wl ts fr fs iu a1 a2 a3 a4 a5 a6 a7 a8 a9 a10 a11 a12 a13 a14 a15) ∧ (¬ x9 = 0 → ((x15 = 0 → wL_lawOf_808 post mc ms x2 x3 x5 x6 x7 x8 x14 x15 0 r kc ks hn hf ln ll rv sl ap wl ts fr fs iu a1 a2 a3 a4 a5 a6 a7 a8 a9 a10 a11 a12 a13 a14 a15) ∧ (¬ x15 = 0 → wL_lawOf_808 post mc ms x2 x3 x5 x6 x7 x8 x14 x15 1 r kc ks hn hf ln ll rv sl ap wl ts fr fs iu a1 a2 a3 a4 a5 a6 a7 a8 a9 a10 a11 a12 a13 a14 a15)))) := by
      intro r hr
      refine br_f (by rw [g9]; decide) ?_
      rcases hD with ⟨d1, d2, d3, d4, d5, d6⟩ | ⟨d1, d2, d3, d4, d5⟩
      · refine br_f (by rw [d1]; decide) (qb_L808 hp hj1 hj t1 t2 ?_ hG hT hS hF ho (Or.inl ⟨d1, d2, d3, d4, d5, d6⟩))
        rw [hr, if_pos ⟨d4, d6, by rw [d5, g6]⟩]
      · refine br_t d1 (qb_L808 hp hj1 hj t1 t2 ?_ hG hT hS hF ho (Or.inr ⟨d1, d2, d3, d4, d5⟩))
        rw [hr, if_neg]
        rintro ⟨_, c, _⟩
        rw [d5] at c
        exact absurd c (by decide)
    rw [g6] at H ⊢
    exact qb_lks t1 t2 hj1 hj (qb_D_ok (qb_G8 hG) hD).2 ho (H _ rfl)
  · exact qb_lksN g6 (br_t g9 (qb_L808 hp hj1 hj t1 t2 rfl hG hT hS hF ho hD))
theorem qb_L750 {Kf K v k : Int32} {n : Nat} (hp : post 1 ()) (hj1 : 1 ≤ j) (hj : j ≤ 8) (t1 : 1 ≤ t) (t2 : t ≤ 8) (hz : z1 = z0) (hG : qb_G x5 x8 j) (hG9 : qb_G x6 x9 t) (h15 : x15 = 1 → x9 = 1) (hS : qb_S x14 x8 Kf) (hF : qb_FP x14 j Kf x2 hn hf ln ll rv iu a7 a8 a9) (ho : qb_ob j K n v k a1 a2 a3 a4) (hD : qb_D x15 x8 x6 x2 K n v k) : wL_lawOf_750 post mc ms x2 x3 x5 x6 x7 x8 x9 x14 x15 z0 z1 kc ks hn hf ln ll rv sl ap wl ts fr fs iu a1 a2 a3 a4 a5 a6 a7 a8 a9 a10 a11 a12 a13 a14 a15 := by
  unfold wL_lawOf_750
  refine br_t hz ?_
  have e1 := ho.1 j hj1 hj
  rw [if_pos rfl] at e1
  have H : ∀ z0 z1, z1 = z0 → wL_lawOf_779 post mc ms x2 x3 x5 x6 x7 x8 x9 x14 x15 z0 z1 kc ks hn hf ln ll rv sl ap wl ts fr fs iu a1 a2 a3 a4 a5 a6 a7 a8 a9 a10 a11 a12 a13 a14 a15 := fun z0 z1 h => qb_L779 hp hj1 hj t1 t2 h hG hG9 h15 hS hF ho hD
  rcases hG with ⟨g8, g5⟩ | ⟨g8, g5⟩
  · rw [g5] at H ⊢
    refine qb_kindY hj1 hj ?_
    rw [e1]
    rcases hD with ⟨d1, d2, d3, d4, d5, d6⟩ | ⟨d1, d2, d3, d4, d5⟩
    · exact br_f (by rw [d1]; decide) (H _ _ d3)
    · exact br_t d1 (br_f (by rw [g8]; decide) (H _ _ (by rw [d2, g8])))
  · refine qb_kindN g5 ?_
    rcases hD with ⟨d1, d2, d3, d4, d5, d6⟩ | ⟨d1, d2, d3, d4, d5⟩
    · rw [g8] at d2
      exact absurd d2 (by decide)
    · exact br_t d1 (br_t g8 (H _ _ rfl))
theorem qb_L729 {Kf : Int32} (hp : post 1 ()) (hj1 : 1 ≤ j) (hj : j ≤ 8) (t1 : 1 ≤ t) (t2 : t ≤ 8) (hG : qb_G x5 x8 j) (hG9 : qb_G x6 x9 t) (hz : (z0 = 0 ∧ (x8 = 0 ∨ x9 = 0)) ∨ (z0 = 1 ∧ x8 = 1 ∧ x9 = 1)) (hS : qb_S x14 x8 Kf) (hF : qb_FP x14 j Kf x2 hn hf ln ll rv iu a7 a8 a9) (ho : qb_ob j x8 (qb_nK x8) x2 0 a1 a2 a3 a4) : wL_lawOf_729 post mc ms x2 x3 x5 x6 x7 x8 x9 x14 z0 kc ks hn hf ln ll rv sl ap wl ts fr fs iu a1 a2 a3 a4 a5 a6 a7 a8 a9 a10 a11 a12 a13 a14 a15 := by
  unfold wL_lawOf_729
  rcases hz with ⟨h0, h⟩ | ⟨h0, h8, h9⟩
  · refine qb_slB ?_ qb_bd_of ?_
    · rcases h with h | h
      · rcases hG with g | g
        · rw [g.1] at h
          exact absurd h (by decide)
        · exact Or.inl g.2
      · rcases hG9 with g | g
        · rw [g.1] at h
          exact absurd h (by decide)
        · exact Or.inr g.2
    · dsimp only
      exact br_t h0 (qb_L750 hp hj1 hj t1 t2 rfl hG hG9 (fun c => absurd c (by rw [h0]; decide)) hS hF ho (Or.inr ⟨h0, rfl, rfl, rfl, rfl⟩))
  · have g5 : x5 = nI j := by
      rcases hG with g | g
      · exact g.2
      · rw [g.1] at h8
        exact absurd h8 (by decide)
    have g6 : x6 = nI t := by
      rcases hG9 with g | g
      · exact g.2
      · rw [g.1] at h9
        exact absurd h9 (by decide)
    have H : ∀ b1 b2 b3 b4 b5 b6, qb_ob j 5 1 (nI t) 2 b1 b2 b3 b4 → wL_lawOf_750 post mc ms x2 x3 x5 x6 x7 x8 x9 x14 z0 1 x8 kc ks hn hf ln ll rv sl ap wl ts fr fs iu b1 b2 b3 b4 b5 b6 a7 a8 a9 a10 a11 a12 a13 a14 a15 := fun b1 b2 b3 b4 b5 b6 hb => qb_L750 hp hj1 hj t1 t2 h8 hG hG9 (fun _ => h9) hS hF hb (Or.inl ⟨h0, h8, rfl, rfl, g6.symm, rfl⟩)
    rw [g5, g6] at H ⊢
    refine qb_slY hj1 hj t1 t2 ho (fun b1 b2 b3 b4 b5 b6 hb => ?_)
    dsimp only
    exact br_f (by rw [h0]; decide) (H b1 b2 b3 b4 b5 b6 hb)
theorem qb_L712 {Kf : Int32} (hp : post 1 ()) (hj1 : 1 ≤ j) (hj : j ≤ 8) (t1 : 1 ≤ t) (t2 : t ≤ 8) (hG : qb_G x5 x8 j) (hG9 : qb_G x6 x9 t) (hS : qb_S z0 x8 Kf) (hF : qb_FP z0 j Kf x2 hn hf ln ll rv iu a7 a8 a9) (ho : qb_ob j x8 (qb_nK x8) x2 0 a1 a2 a3 a4) : wL_lawOf_712 post mc ms x2 x3 x5 x6 x7 x8 x9 z0 kc ks hn hf ln ll rv sl ap wl ts fr fs iu a1 a2 a3 a4 a5 a6 a7 a8 a9 a10 a11 a12 a13 a14 a15 := by
  unfold wL_lawOf_712
  have G : (x8 = 0 ∨ x9 = 0) → wL_lawOf_728 post mc ms x2 x3 x5 x6 x7 x8 x9 z0 kc ks hn hf ln ll rv sl ap wl ts fr fs iu a1 a2 a3 a4 a5 a6 a7 a8 a9 a10 a11 a12 a13 a14 a15 := by
    intro h
    unfold wL_lawOf_728
    exact qb_L729 hp hj1 hj t1 t2 hG hG9 (Or.inl ⟨rfl, h⟩) hS hF ho
  refine br_c (fun c => G (Or.inl c)) (fun c => br_c (fun c2 => G (Or.inr c2)) (fun c2 => qb_L729 hp hj1 hj t1 t2 hG hG9 (Or.inr ⟨rfl, ?_, ?_⟩) hS hF ho))
  · rcases qb_G8 hG with e | e
    · exact absurd e c
    · exact e
  · rcases qb_G8 hG9 with e | e
    · exact absurd e c2
    · exact e
theorem qb_L691 {Kf : Int32} (hp : post 1 ()) (hj1 : 1 ≤ j) (hj : j ≤ 8) (t1 : 1 ≤ t) (t2 : t ≤ 8) (hz : z1 = z0) (hG : qb_G x5 x8 j) (hG9 : qb_G x6 x9 t) (hs : ((x7 < 0 ∨ 3 ≤ x7) ∧ x14 = 0) ∨ (¬ (x7 < 0 ∨ 3 ≤ x7) ∧ x14 = 1)) (hS : qb_S x14 x8 Kf) (hF : qb_FP x14 j Kf x2 hn hf ln ll rv iu a7 a8 a9) (ho : qb_ob j x8 (qb_nK x8) x2 0 a1 a2 a3 a4) : wL_lawOf_691 post mc ms x2 x3 x5 x6 x7 x8 x9 z0 z1 kc ks hn hf ln ll rv sl ap wl ts fr fs iu a1 a2 a3 a4 a5 a6 a7 a8 a9 a10 a11 a12 a13 a14 a15 := by
  unfold wL_lawOf_691
  refine br_t hz ?_
  rcases hs with ⟨h, e⟩ | ⟨h, e⟩
  · subst e
    have G : wL_lawOf_711 post mc ms x2 x3 x5 x6 x7 x8 x9 kc ks hn hf ln ll rv sl ap wl ts fr fs iu a1 a2 a3 a4 a5 a6 a7 a8 a9 a10 a11 a12 a13 a14 a15 := by
      unfold wL_lawOf_711
      exact qb_L712 hp hj1 hj t1 t2 hG hG9 hS hF ho
    refine br_c (fun _ => G) (fun c => br_t ?_ G)
    rcases h with h | h
    · exact absurd h c
    · exact h
  · subst e
    exact br_f (fun c => h (Or.inl c)) (br_f (fun c => h (Or.inr c)) (qb_L712 hp hj1 hj t1 t2 hG hG9 hS hF ho))
theorem qb_sv {x : Int32} (h : ¬ (x < 0 ∨ 3 ≤ x)) : ∃ w, w ≤ 2 ∧ x = nI w := by
  have h1 : ¬ x < 0 := fun c => h (Or.inl c)
  have h2 : ¬ 3 ≤ x := fun c => h (Or.inr c)
  rw [Int32.lt_iff_toInt_lt] at h1
  rw [Int32.le_iff_toInt_le] at h2
  have t3 : (3 : Int32).toInt = 3 := by decide
  have t0 : (0 : Int32).toInt = 0 := by decide
  rw [t3] at h2
  rw [t0] at h1
  refine ⟨x.toInt.toNat, by omega, ?_⟩
  apply Int32.toInt_inj.mp
  rw [nI_toInt (by omega)]
  omega
theorem qb_sv' {x : Int32} (h : x < 0 ∨ 3 ≤ x) : x < 0 ∨ ¬ x ≤ 2 := by
  rcases h with h | h
  · exact Or.inl h
  · refine Or.inr (fun c => ?_)
    rw [Int32.le_iff_toInt_le] at h c
    have t3 : (3 : Int32).toInt = 3 := by decide
    have t2 : (2 : Int32).toInt = 2 := by decide
    rw [t3] at h
    rw [t2] at c
    omega
theorem qb_L665 {z : Int32} (hp : post 1 ()) (hj1 : 1 ≤ j) (hj : j ≤ 8) (t1 : 1 ≤ t) (t2 : t ≤ 8) (hz : z1 = z0) (hG : qb_G x5 x8 j) (hG9 : qb_G x6 x9 t) (hF : qb_FP 0 j 0 z hn hf ln ll rv iu a7 a8 a9) (ho : qb_ob j x8 (qb_nK x8) x2 0 a1 a2 a3 a4) (h6 : ∀ i, 1 ≤ i → i ≤ 8 → a6 i = if i = j ∧ ¬ x8 = 0 then 1 else 0) : wL_lawOf_665 post mc ms x2 x3 x5 x6 x7 x8 x9 z0 z1 kc ks hn hf ln ll rv sl ap wl ts fr fs iu a1 a2 a3 a4 a5 a6 a7 a8 a9 a10 a11 a12 a13 a14 a15 := by
  have hF0 : qb_FP 0 j 0 x2 hn hf ln ll rv iu a7 a8 a9 := by
    rcases hF with h | h
    · exact absurd h.1 (by decide)
    · exact Or.inr h
  unfold wL_lawOf_665
  refine br_t hz ?_
  by_cases hs : x7 < 0 ∨ 3 ≤ x7
  · have G : wL_lawOf_690 post mc ms x2 x3 x5 x6 x7 x8 x9 (-1) kc ks hn hf ln ll rv sl ap wl ts fr fs iu a1 a2 a3 a4 a5 a6 a7 a8 a9 a10 a11 a12 a13 a14 a15 := by
      unfold wL_lawOf_690
      exact qb_L691 hp hj1 hj t1 t2 rfl hG hG9 (Or.inl ⟨hs, rfl⟩) (Or.inr ⟨rfl, rfl⟩) hF0 ho
    refine qb_savB (qb_sv' hs) ?_
    dsimp only
    refine br_c (fun _ => G) (fun c => br_t ?_ G)
    rcases hs with h | h
    · exact absurd h c
    · exact h
  · have H : ∀ hn hf ln ll rv sl ap wl ts iu b6 b7 b8 b9 b10, qb_FP 1 j x8 x2 hn hf ln ll rv iu b7 b8 b9 → wL_lawOf_691 post mc ms x2 x3 x5 x6 x7 x8 x9 1 1 kc ks hn hf ln ll rv sl ap wl ts fr fs iu a1 a2 a3 a4 a5 b6 b7 b8 b9 b10 a11 a12 a13 a14 a15 := fun hn hf ln ll rv sl ap wl ts iu b6 b7 b8 b9 b10 g => qb_L691 hp hj1 hj t1 t2 rfl hG hG9 (Or.inr ⟨hs, rfl⟩) (Or.inl ⟨rfl, rfl⟩) g ho
    obtain ⟨w, hw, e⟩ := qb_sv hs
    have n1 : ¬ x7 < 0 := fun c => hs (Or.inl c)
    have n2 : ¬ 3 ≤ x7 := fun c => hs (Or.inr c)
    rw [e] at H n1 n2 ⊢
    refine qb_sav hj1 hj hw hF (qb_G8 hG) ho (fun i i1 i2 => ?_) (fun hn hf ln ll rv sl ap wl ts iu b6 b7 b8 b9 b10 g => ?_)
    · rw [h6 i i1 i2]
      by_cases q : i = j ∧ ¬ x8 = 0
      · rw [if_pos q]
        exact ⟨fun c => absurd c (by decide), fun c => absurd q c⟩
      · rw [if_neg q]
        exact ⟨fun _ => q, fun _ => rfl⟩
    · dsimp only
      exact br_f n1 (br_f n2 (H _ _ _ _ _ _ _ _ _ _ _ _ _ _ _ g))
theorem qb_L632 {z : Int32} (hp : post 1 ()) (hj1 : 1 ≤ j) (hj : j ≤ 8) (t1 : 1 ≤ t) (t2 : t ≤ 8) (hz : z1 = z0) (hG : qb_G x5 x8 j) (hG9 : qb_G x6 x9 t) (h10 : x10 = if x8 = 0 then -1 else 0) (hF : qb_FP 0 j 0 z hn hf ln ll rv iu a7 a8 a9) (ho : qb_ob j x8 (qb_nK x8) x2 0 a1 a2 a3 a4) : wL_lawOf_632 post mc ms x2 x3 x5 x6 x7 x8 x9 x10 z0 z1 kc ks hn hf ln ll rv sl ap wl ts fr fs iu a1 a2 a3 a4 a5 a6 a7 a8 a9 a10 a11 a12 a13 a14 a15 := by
  have h8 := qb_G8 hG
  unfold wL_lawOf_632
  refine br_t hz ?_
  have H : wpX_changed (fun r u => match u with | (hn', hf', ln', ll', rv', sl', ap', wl', ts', fr', fs', iu', a1', a2', a3', a4', a5', a6', a7', a8', a9', a10', a11', a12', a13', a14', a15') => ((x8 = 0 → wL_lawOf_665 post mc ms x2 x3 x5 x6 x7 x8 x9 0 r kc ks hn' hf' ln' ll' rv' sl' ap' wl' ts' fr' fs' iu' a1' a2' a3' a4' a5' a6' a7' a8' a9' a10' a11' a12' a13' a14' a15') ∧ (¬ x8 = 0 → wL_lawOf_665 post mc ms x2 x3 x5 x6 x7 x8 x9 1 r kc ks hn' hf' ln' ll' rv' sl' ap' wl' ts' fr' fs' iu' a1' a2' a3' a4' a5' a6' a7' a8' a9' a10' a11' a12' a13' a14' a15'))) (hn, hf, ln, ll, rv, sl, ap, wl, ts, fr, fs, iu, a1, a2, a3, a4, a5, a6, a7, a8, a9, a10, a11, a12, a13, a14, a15) := by
    refine qb_chg hj1 hj ?_ hF ho ?_ (fun sl fr fs iu b1 b2 b3 b4 b5 b6 b9 b11 b12 b13 b14 b15 g1 g2 g3 => ?_)
    · rcases h8 with e | e <;> rw [e] <;> decide
    · intro e
      rw [e]
      exact ⟨rfl, fun c => absurd c (by decide)⟩
    · dsimp only
      refine br_c (fun c => qb_L665 hp hj1 hj t1 t2 (if_pos c) hG hG9 g2 g1 g3) (fun c => qb_L665 hp hj1 hj t1 t2 (if_neg c) hG hG9 g2 g1 g3)
  rcases hG with ⟨g8, g5⟩ | ⟨g8, g5⟩
  · have e2 := ho.2.1 j hj1 hj
    rw [if_pos rfl, g8] at e2
    have e4 := (ho.2.2 (by rw [g8]; rfl)).2
    rw [g5] at H ⊢
    refine qb_vk1 hj1 hj e2 (br_t ?_ H)
    rw [e4, h10, g8]
    rfl
  · refine qb_vkN g5 (br_t ?_ H)
    rw [h10, if_pos g8]
theorem qb_L611 {z : Int32} (hp : post 1 ()) (hj1 : 1 ≤ j) (hj : j ≤ 8) (t1 : 1 ≤ t) (t2 : t ≤ 8) (hz : z1 = z0) (hG : qb_G x5 x8 j) (hG9 : qb_G x6 x9 t) (h10 : x10 = if x8 = 0 then -1 else 0) (hF : qb_FP 0 j 0 z hn hf ln ll rv iu a7 a8 a9) (ho : qb_ob j x8 (qb_nK x8) x2 0 a1 a2 a3 a4) : wL_lawOf_611 post mc ms x2 x3 x5 x6 x7 x8 x9 x10 z0 z1 kc ks hn hf ln ll rv sl ap wl ts fr fs iu a1 a2 a3 a4 a5 a6 a7 a8 a9 a10 a11 a12 a13 a14 a15 := by
  unfold wL_lawOf_611
  refine br_t hz ?_
  have H : ∀ z0 z1, z1 = z0 → wL_lawOf_632 post mc ms x2 x3 x5 x6 x7 x8 x9 x10 z0 z1 kc ks hn hf ln ll rv sl ap wl ts fr fs iu a1 a2 a3 a4 a5 a6 a7 a8 a9 a10 a11 a12 a13 a14 a15 := fun z0 z1 h => qb_L632 hp hj1 hj t1 t2 h hG hG9 h10 hF ho
  rcases hG with ⟨g8, g5⟩ | ⟨g8, g5⟩
  · have e1 := ho.1 j hj1 hj
    rw [if_pos rfl, g8] at e1
    rw [g5] at H ⊢
    exact qb_res1 hj1 hj e1 (br_f (by rw [g8]; decide) (H _ _ rfl))
  · exact qb_resN g5 (br_t g8 (H _ _ rfl))
theorem qb_L590 {z : Int32} (hp : post 1 ()) (hj1 : 1 ≤ j) (hj : j ≤ 8) (t1 : 1 ≤ t) (t2 : t ≤ 8) (hz : z1 = z0) (hG : qb_G x5 x8 j) (hG9 : qb_G x6 x9 t) (h10 : x10 = if x8 = 0 then -1 else 0) (hF : qb_FP 0 j 0 z hn hf ln ll rv iu a7 a8 a9) (ho : qb_ob j x8 (qb_nK x8) x2 0 a1 a2 a3 a4) : wL_lawOf_590 post mc ms x2 x3 x5 x6 x7 x8 x9 x10 z0 z1 kc ks hn hf ln ll rv sl ap wl ts fr fs iu a1 a2 a3 a4 a5 a6 a7 a8 a9 a10 a11 a12 a13 a14 a15 := by
  unfold wL_lawOf_590
  refine br_t hz ?_
  have H : ∀ z0 z1, z1 = z0 → wL_lawOf_611 post mc ms x2 x3 x5 x6 x7 x8 x9 x10 z0 z1 kc ks hn hf ln ll rv sl ap wl ts fr fs iu a1 a2 a3 a4 a5 a6 a7 a8 a9 a10 a11 a12 a13 a14 a15 := fun z0 z1 h => qb_L611 hp hj1 hj t1 t2 h hG hG9 h10 hF ho
  rcases hG with ⟨g8, g5⟩ | ⟨g8, g5⟩
  · have e2 := ho.2.1 j hj1 hj
    rw [if_pos rfl, g8] at e2
    have e3 := (ho.2.2 (by rw [g8]; rfl)).1
    rw [g5] at H ⊢
    exact qb_val1 hj1 hj e2 (br_f (by rw [g8]; decide) (H _ _ e3))
  · exact qb_valN g5 (br_t g8 (H _ _ rfl))
theorem qb_ring (x y : Int32) : (0 + (1000 * x) * 1) + (8 * x + 0 + 1) * y = (8 * x + 1) * y + 1000 * x := by grind
theorem qb_L557 {z : Int32} (hp : post 1 ()) (hj1 : 1 ≤ j) (hj : j ≤ 8) (t1 : 1 ≤ t) (t2 : t ≤ 8) (hz : z1 = z0) (hG : qb_G x5 x8 j) (hG9 : qb_G x6 x9 t) (h10 : x10 = if x8 = 0 then -1 else 0) (hF : qb_FP 0 j 0 z hn hf ln ll rv iu a7 a8 a9) (ho : qb_ob j x8 (qb_nK x8) x2 0 a1 a2 a3 a4) : wL_lawOf_557 post mc ms x2 x3 x5 x6 x7 x8 x9 x10 z0 z1 kc ks hn hf ln ll rv sl ap wl ts fr fs iu a1 a2 a3 a4 a5 a6 a7 a8 a9 a10 a11 a12 a13 a14 a15 := by
  unfold wL_lawOf_557
  refine br_t hz (qb_dig4 hj1 hj ?_ ho ?_)
  · rcases qb_G8 hG with e | e <;> rw [e] <;> decide
  refine br_c (fun c => qb_L590 hp hj1 hj t1 t2 ?_ hG hG9 h10 hF ho) (fun c => qb_L590 hp hj1 hj t1 t2 ?_ hG hG9 h10 hF ho)
  · rw [c, if_neg (by decide), qb_z0']
  · rcases hG with ⟨g8, g5⟩ | ⟨g8, g5⟩
    · rw [g8, g5, if_pos (by decide), qb_ring]
    · exact absurd g8 c
theorem qb_L523 {z v k : Int32} (hp : post 1 ()) (hj1 : 1 ≤ j) (hj : j ≤ 8) (t1 : 1 ≤ t) (t2 : t ≤ 8) (hz : z1 = z0) (hG : qb_G x5 x8 j) (hG9 : qb_G x6 x9 t) (h10 : x10 = if x8 = 0 then -1 else 0) (hF : qb_FP 0 j 0 z hn hf ln ll rv iu a7 a8 a9) (ho : qb_ob j 0 0 v k a1 a2 a3 a4) : wL_lawOf_523 post mc ms x2 x3 x5 x6 x7 x8 x9 x10 z0 z1 kc ks hn hf ln ll rv sl ap wl ts fr fs iu a1 a2 a3 a4 a5 a6 a7 a8 a9 a10 a11 a12 a13 a14 a15 := by
  unfold wL_lawOf_523
  refine br_t hz ?_
  rcases hG with ⟨g8, g5⟩ | ⟨g8, g5⟩
  · have hG : qb_G x5 x8 j := Or.inl ⟨g8, g5⟩
    have H : ∀ b1 b2 b3 b4 b5 b6, qb_ob j 1 1 x2 0 b1 b2 b3 b4 → wL_lawOf_557 post mc ms x2 x3 x5 x6 x7 x8 x9 x10 1 1 kc ks hn hf ln ll rv sl ap wl ts fr fs iu b1 b2 b3 b4 b5 b6 a7 a8 a9 a10 a11 a12 a13 a14 a15 := by
      intro b1 b2 b3 b4 b5 b6 hb
      refine qb_L557 hp hj1 hj t1 t2 rfl hG hG9 h10 hF ?_
      rw [g8]
      exact hb
    rw [g5] at H ⊢
    refine qb_snY hj1 hj ho (fun b1 b2 b3 b4 b5 b6 hb => ?_)
    dsimp only
    refine br_t (by rw [h10, g8]; rfl) (qb_snY hj1 hj hb (fun c1 c2 c3 c4 c5 c6 hc => ?_))
    dsimp only
    exact br_f (by rw [g8]; decide) (H c1 c2 c3 c4 c5 c6 hc)
  · refine qb_snB g5 ?_
    dsimp only
    refine br_t (by rw [h10, if_pos g8]) (qb_snB g5 ?_)
    dsimp only
    refine br_t g8 (qb_L557 hp hj1 hj t1 t2 rfl (Or.inr ⟨g8, g5⟩) hG9 h10 hF ?_)
    rw [g8]
    exact qb_ob_0 ho
end
end
section
section
variable {hn hf ln ll rv sl ap wl ts fr fs iu : Int32} {a1 a2 a3 a4 a5 a6 a7 a8 a9 a10 a11 a12 a13 a14 a15 : Nat → Int32} {post : Int32 → St0 → Prop} {mc ms kc ks : Nat} {x1 x2 x3 x5 x6 x7 x8 x9 x10 x12 z0 z1 z v k : Int32} {j t : Nat}
theorem qb_L502 (hp : post 1 ()) (hj1 : 1 ≤ j) (hj : j ≤ 8) (t1 : 1 ≤ t) (t2 : t ≤ 8) (hG : qb_G x5 x8 j) (hG9 : qb_G x6 x9 t) (h10 : x10 = if x8 = 0 then -1 else 0) (hF : qb_FP 0 j 0 z hn hf ln ll rv iu a7 a8 a9) (ho : qb_ob j 0 0 v k a1 a2 a3 a4) (hz : (z0 = 0 ∧ ¬ qb_pu x12 x3) ∨ (z0 = 1 ∧ qb_pu x12 x3)) : wL_lawOf_502 post mc ms x2 x3 x5 x6 x7 x8 x9 x10 x12 z0 kc ks hn hf ln ll rv sl ap wl ts fr fs iu a1 a2 a3 a4 a5 a6 a7 a8 a9 a10 a11 a12 a13 a14 a15 := by
  unfold wL_lawOf_502
  rcases hz with ⟨h0, h⟩ | ⟨h0, h⟩
  · refine qb_putB h ?_
    dsimp only
    exact br_t h0 (qb_L523 hp hj1 hj t1 t2 rfl hG hG9 h10 hF ho)
  · refine qb_putN (fun i i1 i2 => (qb_ob_zi ho i i1 i2).1) h ?_
    dsimp only
    exact br_f (by rw [h0]; decide) (qb_L523 hp hj1 hj t1 t2 rfl hG hG9 h10 hF ho)
theorem qb_c64 : (64 : Int32).toInt = 64 ∧ (576 : Int32).toInt = 576 ∧ (1 : Int32).toInt = 1 ∧ (8 : Int32).toInt = 8 := by decide
theorem qb_pu_lo {x y : Int32} (h : x < 64) : ¬ qb_pu x y := by
  rintro ⟨c, _⟩
  refine c (Or.inl ?_)
  rw [Int32.lt_iff_toInt_lt] at h ⊢
  rw [qb_c64.1] at h
  rw [qb_c64.2.2.1, pk_shr x _ 6 (by decide), Int.shiftRight_eq_div_pow]
  omega
theorem qb_pu_hi {x y : Int32} (h : 576 ≤ x) : ¬ qb_pu x y := by
  rintro ⟨c, _⟩
  refine c (Or.inr ?_)
  rw [Int32.le_iff_toInt_le] at h
  rw [Int32.lt_iff_toInt_lt]
  rw [qb_c64.2.1] at h
  rw [qb_c64.2.2.2, pk_shr x _ 6 (by decide), Int.shiftRight_eq_div_pow]
  omega
theorem qb_pu_mid {x y : Int32} (h1 : ¬ x < 64) (h2 : ¬ 576 ≤ x) : ∃ c, 64 ≤ c ∧ c < 576 ∧ x = nI c := by
  rw [Int32.lt_iff_toInt_lt, qb_c64.1] at h1
  rw [Int32.le_iff_toInt_le, qb_c64.2.1] at h2
  refine ⟨x.toInt.toNat, by omega, by omega, ?_⟩
  apply Int32.toInt_inj.mp
  rw [nI_toInt (by omega)]
  omega
theorem qb_pu_bd {c : Nat} (h1 : 64 ≤ c) (h2 : c < 576) : ¬ qb_bd (nI c >>> ((6 : Int32) &&& 31)) := by
  rw [pk_shrN (by omega) _ 6 (by decide)]
  exact qb_bd_no (by omega) (by omega)
theorem qb_pu_and {c : Nat} (h2 : c < 576) : (nI c &&& 1 = 1 ↔ c % 2 = 1) := by
  rw [pk_andN (by omega) 1 (by decide), show (1 : Int32) = nI 1 from rfl, nI_eq (by omega) (by omega)]
theorem qb_pu_rem {c : Nat} (h2 : c < 576) : (nI c - nI c / 2 * 2 = 0 ↔ c % 2 = 0) := by
  rw [show (2 : Int32) = nI 2 from rfl, pk_rem (by omega) (by omega) (by omega), show (0 : Int32) = nI 0 from rfl, nI_eq (by omega) (by omega)]
theorem qb_it2 (y : Int32) : qb_it 2 y ↔ ¬ qb_bd y := by
  constructor
  · rintro (h | ⟨h, _⟩ | ⟨_, h⟩)
    · exact absurd h (by decide)
    · exact absurd h (by decide)
    · exact h
  · exact fun h => Or.inr (Or.inr ⟨rfl, h⟩)
theorem qb_L462 (hp : post 1 ()) (hj1 : 1 ≤ j) (hj : j ≤ 8) (t1 : 1 ≤ t) (t2 : t ≤ 8) (hG : qb_G x5 x8 j) (hG9 : qb_G x6 x9 t) (h10 : x10 = if x8 = 0 then -1 else 0) (hF : qb_FP 0 j 0 z hn hf ln ll rv iu a7 a8 a9) (ho : qb_ob j 0 0 v k a1 a2 a3 a4) : wL_lawOf_462 post mc ms x2 x3 x5 x6 x7 x8 x9 x10 z0 kc ks hn hf ln ll rv sl ap wl ts fr fs iu a1 a2 a3 a4 a5 a6 a7 a8 a9 a10 a11 a12 a13 a14 a15 := by
  have N : ¬ qb_pu z0 x3 → wL_lawOf_501 post mc ms x2 x3 x5 x6 x7 x8 x9 x10 z0 kc ks hn hf ln ll rv sl ap wl ts fr fs iu a1 a2 a3 a4 a5 a6 a7 a8 a9 a10 a11 a12 a13 a14 a15 := by
    intro h
    unfold wL_lawOf_501
    exact qb_L502 hp hj1 hj t1 t2 hG hG9 h10 hF ho (Or.inl ⟨rfl, h⟩)
  have Y : qb_pu z0 x3 → wL_lawOf_497 post mc ms x2 x3 x5 x6 x7 x8 x9 x10 z0 kc ks hn hf ln ll rv sl ap wl ts fr fs iu a1 a2 a3 a4 a5 a6 a7 a8 a9 a10 a11 a12 a13 a14 a15 := by
    intro h
    unfold wL_lawOf_497
    exact qb_L502 hp hj1 hj t1 t2 hG hG9 h10 hF ho (Or.inr ⟨rfl, h⟩)
  unfold wL_lawOf_462
  refine br_c (fun c => N (qb_pu_lo c)) (fun c1 => br_c (fun c => N (qb_pu_hi c)) (fun c2 => ⟨by decide, ?_⟩))
  obtain ⟨c, h1, h2, e⟩ := qb_pu_mid (y := x3) c1 c2
  have hb := qb_pu_bd h1 h2
  have ha := qb_pu_and h2
  have hr := qb_pu_rem h2
  rw [← e] at hb ha hr
  refine br_c (fun q => Y ⟨hb, ?_⟩) (fun q => ?_)
  · rw [if_neg (by rw [ha]; have := hr.mp q; omega)]
    exact Or.inl rfl
  · have q1 : z0 &&& 1 = 1 := by
      rw [ha]
      rw [hr] at q
      omega
    refine br_c (fun q2 => N ?_) (fun q2 => br_c (fun q3 => N ?_) (fun q3 => Y ⟨hb, ?_⟩))
    · rintro ⟨_, c⟩
      rw [if_pos q1, qb_it2] at c
      exact c (Or.inl q2)
    · rintro ⟨_, c⟩
      rw [if_pos q1, qb_it2] at c
      exact c (Or.inr q3)
    · rw [if_pos q1, qb_it2]
      rintro (q | q)
      · exact q2 q
      · exact q3 q
theorem qb_L437 (hp : post 1 ()) (hj1 : 1 ≤ j) (hj : j ≤ 8) (t1 : 1 ≤ t) (t2 : t ≤ 8) (hz : z1 = z0) (hG : qb_G x5 x8 j) (hG9 : qb_G x6 x9 t) (h10 : x10 = if x8 = 0 then -1 else 0) (hF : qb_FP 0 j 0 z hn hf ln ll rv iu a7 a8 a9) (ho : qb_ob j 0 0 v k a1 a2 a3 a4) : wL_lawOf_437 post mc ms x1 x2 x3 x5 x6 x7 x8 x9 x10 z0 z1 kc ks hn hf ln ll rv sl ap wl ts fr fs iu a1 a2 a3 a4 a5 a6 a7 a8 a9 a10 a11 a12 a13 a14 a15 := by
  unfold wL_lawOf_437
  exact br_t hz (br_c (fun _ => qb_L462 hp hj1 hj t1 t2 hG hG9 h10 hF ho) (fun _ => qb_L462 hp hj1 hj t1 t2 hG hG9 h10 hF ho))
theorem qb_L409 (hp : post 1 ()) (hj1 : 1 ≤ j) (hj : j ≤ 8) (t1 : 1 ≤ t) (t2 : t ≤ 8) (hG : qb_G x5 x8 j) (hG9 : qb_G x6 x9 t) (h10 : x10 = if x8 = 0 then -1 else 0) (hF : qb_FP 0 j 0 z hn hf ln ll rv iu a7 a8 a9) (ho : qb_ob j 0 0 v k a1 a2 a3 a4) (hz : (z0 = 0 ∧ ¬ qb_it x7 x3) ∨ (z0 = 1 ∧ qb_it x7 x3)) : wL_lawOf_409 post mc ms x1 x2 x3 x5 x6 x7 x8 x9 x10 z0 kc ks hn hf ln ll rv sl ap wl ts fr fs iu a1 a2 a3 a4 a5 a6 a7 a8 a9 a10 a11 a12 a13 a14 a15 := by
  have H : ∀ z0 z1, z1 = z0 → wL_lawOf_437 post mc ms x1 x2 x3 x5 x6 x7 x8 x9 x10 z0 z1 kc ks hn hf ln ll rv sl ap wl ts fr fs iu a1 a2 a3 a4 a5 a6 a7 a8 a9 a10 a11 a12 a13 a14 a15 := fun z0 z1 h => qb_L437 hp hj1 hj t1 t2 h hG hG9 h10 hF ho
  have B : wL_lawOf_436 post mc ms x1 x2 x3 x5 x6 x7 x8 x9 x10 (-1) kc ks hn hf ln ll rv sl ap wl ts fr fs iu a1 a2 a3 a4 a5 a6 a7 a8 a9 a10 a11 a12 a13 a14 a15 := by
    unfold wL_lawOf_436
    exact H _ _ rfl
  unfold wL_lawOf_409
  rcases hG with ⟨g8, g5⟩ | ⟨g8, g5⟩
  · rcases hz with ⟨h0, h⟩ | ⟨h0, h⟩
    · refine qb_pushB (Or.inr h) ?_
      dsimp only
      exact br_f (by rw [g8]; decide) (br_t h0 B)
    · rw [g5] at H ⊢
      refine qb_pushN hj1 hj (qb_ob_zi ho j hj1 hj).1 h ?_
      dsimp only
      exact br_f (by rw [g8]; decide) (br_f (by rw [h0]; decide) (H _ _ rfl))
  · refine qb_pushB (Or.inl g5) ?_
    dsimp only
    exact br_t g8 B
theorem qb_63 {y : Int32} : y < 64 ↔ ¬ 63 < y := by
  rw [Int32.lt_iff_toInt_lt, Int32.lt_iff_toInt_lt]
  have t3 : (63 : Int32).toInt = 63 := by decide
  rw [qb_c64.1, t3]
  omega
theorem qb_L361 (hp : post 1 ()) (hj1 : 1 ≤ j) (hj : j ≤ 8) (t1 : 1 ≤ t) (t2 : t ≤ 8) (hz : z1 = z0) (hG : qb_G x5 x8 j) (hG9 : qb_G x6 x9 t) (h10 : x10 = if x8 = 0 then -1 else 0) (hF : qb_FP 0 j 0 z hn hf ln ll rv iu a7 a8 a9) (ho : qb_ob j 0 0 v k a1 a2 a3 a4) : wL_lawOf_361 post mc ms x1 x2 x3 x5 x6 x7 x8 x9 x10 z0 z1 kc ks hn hf ln ll rv sl ap wl ts fr fs iu a1 a2 a3 a4 a5 a6 a7 a8 a9 a10 a11 a12 a13 a14 a15 := by
  have Y : qb_it x7 x3 → wL_lawOf_404 post mc ms x1 x2 x3 x5 x6 x7 x8 x9 x10 kc ks hn hf ln ll rv sl ap wl ts fr fs iu a1 a2 a3 a4 a5 a6 a7 a8 a9 a10 a11 a12 a13 a14 a15 := by
    intro h
    unfold wL_lawOf_404
    exact qb_L409 hp hj1 hj t1 t2 hG hG9 h10 hF ho (Or.inr ⟨rfl, h⟩)
  have N : ¬ qb_it x7 x3 → wL_lawOf_408 post mc ms x1 x2 x3 x5 x6 x7 x8 x9 x10 kc ks hn hf ln ll rv sl ap wl ts fr fs iu a1 a2 a3 a4 a5 a6 a7 a8 a9 a10 a11 a12 a13 a14 a15 := by
    intro h
    unfold wL_lawOf_408
    exact qb_L409 hp hj1 hj t1 t2 hG hG9 h10 hF ho (Or.inl ⟨rfl, h⟩)
  have L : ¬ x7 = 0 → ¬ (x7 = 1 ∧ ¬ x3 < 0 ∧ x3 < 64) → wL_lawOf_387 post mc ms x1 x2 x3 x5 x6 x7 x8 x9 x10 kc ks hn hf ln ll rv sl ap wl ts fr fs iu a1 a2 a3 a4 a5 a6 a7 a8 a9 a10 a11 a12 a13 a14 a15 := by
    intro n0 n1
    have M : (x7 = 2 → qb_bd x3) → ¬ qb_it x7 x3 := by
      intro h c
      rcases c with c | ⟨c, c1, c2⟩ | ⟨c, c1⟩
      · exact n0 c
      · exact n1 ⟨c, c1, qb_63.mpr c2⟩
      · exact c1 (h c)
    unfold wL_lawOf_387
    refine br_c (fun c => br_c (fun q => N (M (fun _ => Or.inl q))) (fun q => br_c (fun q2 => N (M (fun _ => Or.inr q2))) (fun q2 => Y (Or.inr (Or.inr ⟨c, ?_⟩))))) (fun c => N (M (fun c2 => absurd c2 c)))
    rintro (d | d)
    · exact q d
    · exact q2 d
  unfold wL_lawOf_361
  refine br_t hz (br_c (fun c => Y (Or.inl c)) (fun c => br_c (fun c1 => br_c (fun q => L c (fun h => h.2.1 q)) (fun q => br_c (fun q2 => Y (Or.inr (Or.inl ⟨c1, q, qb_63.mp q2⟩))) (fun q2 => L c (fun h => q2 h.2.2)))) (fun c1 => L c (fun h => c1 h.1))))
theorem qb_L280 (hp : post 1 ()) (hj1 : 1 ≤ j) (hj : j ≤ 8) (t1 : 1 ≤ t) (t2 : t ≤ 8) (hz : z1 = z0) (hG : qb_G x5 x8 j) (hG9 : qb_G x6 x9 t) (h10 : x10 = if x8 = 0 then -1 else 0) (hF : qb_FP 0 j 0 z hn hf ln ll rv iu a7 a8 a9) (ho : qb_ob j 0 0 z 0 a1 a2 a3 a4) : wL_lawOf_280 post mc ms x1 x2 x3 x5 x6 x7 x8 x9 x10 z0 z1 kc ks hn hf ln ll rv sl ap wl ts fr fs iu a1 a2 a3 a4 a5 a6 a7 a8 a9 a10 a11 a12 a13 a14 a15 := by
  have hrv : rv = 0 := (qb_FPrv hF).1
  -- behind remove
  have R : ∀ b1 b2 b6, qb_ob j 0 0 z 0 b1 b2 a3 a4 → wpX_sweep (fun r u => match u with | (hn', hf', ln', ll', rv', sl', ap', wl', ts', fr', fs', iu', a1', a2', a3', a4', a5', a6', a7', a8', a9', a10', a11', a12', a13', a14', a15') => ((r = 0 → wpX_revisions (fun r => ((r = 0 → wpX_open (fun r u => match u with | (hn'', hf'', ln'', ll'', rv'', sl'', ap'', wl'', ts'', fr'', fs'', iu'', a1'', a2'', a3'', a4'', a5'', a6'', a7'', a8'', a9'', a10'', a11'', a12'', a13'', a14'', a15'') => ((r = -1 → wpX_changed (fun r u => match u with | (hn3, hf3, ln3, ll3, rv3, sl3, ap3, wl3, ts3, fr3, fs3, iu3, a13, a23, a33, a43, a53, a63, a73, a83, a93, a103, a113, a123, a133, a143, a153) => ((r = 0 → wpX_digest (fun r => ((r = 0 → wpX_breakOff (fun r u => match u with | (hn4, hf4, ln4, ll4, rv4, sl4, ap4, wl4, ts4, fr4, fs4, iu4, a14, a24, a34, a44, a54, a64, a74, a84, a94, a104, a114, a124, a134, a144, a154) => ((x7 < 0 → wL_lawOf_360 post mc ms x1 x2 x3 x5 x6 x7 x8 x9 x10 r kc ks hn4 hf4 ln4 ll4 rv4 sl4 ap4 wl4 ts4 fr4 fs4 iu4 a14 a24 a34 a44 a54 a64 a74 a84 a94 a104 a114 a124 a134 a144 a154) ∧ (¬ x7 < 0 → ((3 ≤ x7 → wL_lawOf_360 post mc ms x1 x2 x3 x5 x6 x7 x8 x9 x10 r kc ks hn4 hf4 ln4 ll4 rv4 sl4 ap4 wl4 ts4 fr4 fs4 iu4 a14 a24 a34 a44 a54 a64 a74 a84 a94 a104 a114 a124 a134 a144 a154) ∧ (¬ 3 ≤ x7 → wL_lawOf_361 post mc ms x1 x2 x3 x5 x6 x7 x8 x9 x10 0 r kc ks hn4 hf4 ln4 ll4 rv4 sl4 ap4 wl4 ts4 fr4 fs4 iu4 a14 a24 a34 a44 a54 a64 a74 a84 a94 a104 a114 a124 a134 a144 a154))))) (hn3, hf3, ln3, ll3, rv3, sl3, ap3, wl3, ts3, fr3, fs3, iu3, a13, a23, a33, a43, a53, a63, a73, a83, a93, a103, a113, a123, a133, a143, a153) x7 x3) ∧ (¬ r = 0 → post 0 ()))) (hn3, hf3, ln3, ll3, rv3, sl3, ap3, wl3, ts3, fr3, fs3, iu3, a13, a23, a33, a43, a53, a63, a73, a83, a93, a103, a113, a123, a133, a143, a153)) ∧ (¬ r = 0 → post 0 ()))) (hn'', hf'', ln'', ll'', rv'', sl'', ap'', wl'', ts'', fr'', fs'', iu'', a1'', a2'', a3'', a4'', a5'', a6'', a7'', a8'', a9'', a10'', a11'', a12'', a13'', a14'', a15'')) ∧ (¬ r = -1 → post 0 ()))) (hn', hf', ln', ll', rv', sl', ap', wl', ts', fr', fs', iu', a1', a2', a3', a4', a5', a6', a7', a8', a9', a10', a11', a12', a13', a14', a15') x2) ∧ (¬ r = 0 → post 0 ()))) (hn', hf', ln', ll', rv', sl', ap', wl', ts', fr', fs', iu', a1', a2', a3', a4', a5', a6', a7', a8', a9', a10', a11', a12', a13', a14', a15')) ∧ (¬ r = 0 → post 0 ()))) (hn, hf, ln, ll, rv, sl, ap, wl, ts, fr, fs, iu, b1, b2, a3, a4, a5, b6, a7, a8, a9, a10, a11, a12, a13, a14, a15) := by
    intro b1 b2 b6 hb
    refine qb_swe (K := 0) hj1 hj (Or.inl rfl) hb (fun _ => ?_) (fun c => absurd c (by decide))
    dsimp only
    refine br_t rfl ?_
    unfold wpX_revisions
    dsimp only
    refine br_t hrv (qb_opB ?_ ?_)
    · rw [hrv]
      by_cases q : x2 < 0
      · exact Or.inl q
      · exact Or.inr q
    dsimp only
    refine br_t rfl (qb_chg (n := 0) hj1 hj (by omega) hF hb (fun _ => ⟨rfl, fun c => absurd c (by omega)⟩) (fun sl fr fs iu b1 b2 b3 b4 b5 b6 b9 b11 b12 b13 b14 b15 g1 g2 g3 => ?_))
    dsimp only
    refine br_t (if_pos rfl) (qb_dig4 (n := 0) hj1 hj (by omega) g1 ?_)
    rw [if_neg (by omega), qb_z0']
    refine br_t rfl ?_
    by_cases hs : x7 < 0 ∨ 3 ≤ x7
    · refine qb_brkB (qb_sv' hs) ?_
      dsimp only
      have B : wL_lawOf_360 post mc ms x1 x2 x3 x5 x6 x7 x8 x9 x10 (-1) kc ks hn hf ln ll rv sl ap wl ts fr fs iu b1 b2 b3 b4 b5 b6 a7 a8 b9 a10 b11 b12 b13 b14 b15 := by
        unfold wL_lawOf_360
        exact qb_L361 hp hj1 hj t1 t2 rfl hG hG9 h10 g2 g1
      refine br_c (fun _ => B) (fun c => br_t ?_ B)
      rcases hs with h | h
      · exact absurd h c
      · exact h
    · obtain ⟨w, hw, e⟩ := qb_sv hs
      have n1 : ¬ x7 < 0 := fun c => hs (Or.inl c)
      have n2 : ¬ 3 ≤ x7 := fun c => hs (Or.inr c)
      have H : ∀ (hn hf ln ll rv sl ap wl ts fr fs iu : Int32) (a1 a2 a3 a4 a5 a6 a7 a8 a9 a10 a11 a12 a13 a14 a15 : Nat → Int32), qb_FP 0 j 0 z hn hf ln ll rv iu a7 a8 a9 → qb_ob j 0 0 z 0 a1 a2 a3 a4 → ∀ z0 z1, z1 = z0 → wL_lawOf_361 post mc ms x1 x2 x3 x5 x6 x7 x8 x9 x10 z0 z1 kc ks hn hf ln ll rv sl ap wl ts fr fs iu a1 a2 a3 a4 a5 a6 a7 a8 a9 a10 a11 a12 a13 a14 a15 := fun _ _ _ _ _ _ _ _ _ _ _ _ _ _ _ _ _ _ _ _ _ _ _ _ _ _ _ q1 q2 z0 z1 q3 => qb_L361 hp hj1 hj t1 t2 q3 hG hG9 h10 q1 q2
      rw [e] at H n1 n2 ⊢
      refine qb_brk (n := 0) hj1 hj hw g2 g1 ⟨Or.inl rfl, Or.inl rfl⟩ (fun _ => rfl) (fun _ i i1 i2 => ?_) (fun sl ap wl ts fr fs iu c1 c2 c3 c4 c5 c6 c7 c8 c9 c10 q1 q2 => ?_)
      · rw [g3 i i1 i2, if_neg (fun c => c.2 rfl)]
        exact ⟨fun _ c => c.2 rfl, fun _ => rfl⟩
      · dsimp only
        exact br_f n1 (br_f n2 (H _ _ _ _ _ _ _ _ _ _ _ _ _ _ _ _ _ _ _ _ _ _ _ _ _ _ _ q2 q1 _ _ hrv))
  unfold wL_lawOf_280
  refine br_t hz ?_
  rcases hG with ⟨g8, g5⟩ | ⟨g8, g5⟩
  · rw [g5] at R ⊢
    refine qb_remY hj1 hj ?_
    dsimp only
    refine br_t ?_ (R _ _ _ (qb_ob_rem ho))
    rw [(qb_ob_zi ho j hj1 hj).1, h10, g8]
    rfl
  · refine qb_remB g5 ?_
    dsimp only
    refine br_t ?_ (R _ _ _ ho)
    rw [h10, if_pos g8]
theorem qb_L259 (hp : post 1 ()) (hj1 : 1 ≤ j) (hj : j ≤ 8) (t1 : 1 ≤ t) (t2 : t ≤ 8) (hz : z1 = z0) (hG : qb_G x5 x8 j) (hG9 : qb_G x6 x9 t) (h10 : x10 = if x8 = 0 then -1 else 0) (hF : qb_FP 0 j 0 z hn hf ln ll rv iu a7 a8 a9) (ho : qb_ob j 0 0 z 0 a1 a2 a3 a4) : wL_lawOf_259 post mc ms x1 x2 x3 x5 x6 x7 x8 x9 x10 z0 z1 kc ks hn hf ln ll rv sl ap wl ts fr fs iu a1 a2 a3 a4 a5 a6 a7 a8 a9 a10 a11 a12 a13 a14 a15 := by
  have H : ∀ z0 z1, z1 = z0 → wL_lawOf_280 post mc ms x1 x2 x3 x5 x6 x7 x8 x9 x10 z0 z1 kc ks hn hf ln ll rv sl ap wl ts fr fs iu a1 a2 a3 a4 a5 a6 a7 a8 a9 a10 a11 a12 a13 a14 a15 := fun z0 z1 h => qb_L280 hp hj1 hj t1 t2 h hG hG9 h10 hF ho
  unfold wL_lawOf_259
  refine br_t hz ?_
  rcases hG with ⟨g8, g5⟩ | ⟨g8, g5⟩
  · rw [g5] at H ⊢
    refine qb_popN hj1 hj (qb_ob_zi ho j hj1 hj).2 ?_
    dsimp only
    exact br_f (by rw [g8]; decide) (H _ _ rfl)
  · refine qb_popB g5 ?_
    dsimp only
    exact br_t g8 (H _ _ rfl)
theorem qb_255 {y : Int32} : 256 ≤ y ↔ ¬ y ≤ 255 := by
  rw [Int32.le_iff_toInt_le, Int32.le_iff_toInt_le]
  have t3 : (256 : Int32).toInt = 256 := by decide
  have t4 : (255 : Int32).toInt = 255 := by decide
  rw [t3, t4]
  omega
theorem qb_L212 (hp : post 1 ()) (hj1 : 1 ≤ j) (hj : j ≤ 8) (t1 : 1 ≤ t) (t2 : t ≤ 8) (hz : z1 = z0) (hG : qb_G x5 x8 j) (hG9 : qb_G x6 x9 t) (h10 : x10 = if x8 = 0 then -1 else 0) (hF : qb_FP 0 j 0 z hn hf ln ll rv iu a7 a8 a9) (ho : qb_ob j 0 0 z 0 a1 a2 a3 a4) : wL_lawOf_212 post mc ms x1 x2 x3 x5 x6 x7 x8 x9 x10 z0 z1 kc ks hn hf ln ll rv sl ap wl ts fr fs iu a1 a2 a3 a4 a5 a6 a7 a8 a9 a10 a11 a12 a13 a14 a15 := by
  have H : ∀ z0 z1, z1 = z0 → wL_lawOf_259 post mc ms x1 x2 x3 x5 x6 x7 x8 x9 x10 z0 z1 kc ks hn hf ln ll rv sl ap wl ts fr fs iu a1 a2 a3 a4 a5 a6 a7 a8 a9 a10 a11 a12 a13 a14 a15 := fun z0 z1 h => qb_L259 hp hj1 hj t1 t2 h hG hG9 h10 hF ho
  have B : wL_lawOf_258 post mc ms x1 x2 x3 x5 x6 x7 x8 x9 x10 (-1) kc ks hn hf ln ll rv sl ap wl ts fr fs iu a1 a2 a3 a4 a5 a6 a7 a8 a9 a10 a11 a12 a13 a14 a15 := by
    unfold wL_lawOf_258
    exact H _ _ rfl
  unfold wL_lawOf_212
  refine br_t hz ?_
  rcases hG with ⟨g8, g5⟩ | ⟨g8, g5⟩
  · rw [g5] at H B ⊢
    refine qb_lks (n := 0) hj1 hj hj1 hj (by omega) ho (br_t ?_ ?_)
    · rw [if_neg (fun c => absurd c.1 (by omega)), h10, g8]
      rfl
    · by_cases q : x3 < 0 ∨ ¬ x3 ≤ 255
      · refine qb_appB (Or.inr q) qb_bd_of ?_
        dsimp only
        refine br_f (by rw [g8]; decide) (br_c (fun _ => B) (fun c => br_t ?_ B))
        rcases q with q | q
        · exact absurd q c
        · exact qb_255.mpr q
      · have q1 : ¬ x3 < 0 := fun c => q (Or.inl c)
        have q2 : x3 ≤ 255 := Classical.byContradiction (fun c => q (Or.inr c))
        refine qb_appN hj1 hj (qb_ob_zi ho j hj1 hj).1 q1 q2 ?_
        dsimp only
        exact br_f (by rw [g8]; decide) (br_f q1 (br_f (fun c => qb_255.mp c q2) (H _ _ rfl)))
  · refine qb_lksN g5 (br_t ?_ (qb_appB (Or.inl g5) qb_bd_of ?_))
    · rw [h10, if_pos g8]
    · dsimp only
      exact br_t g8 B
theorem qb_L169 (hp : post 1 ()) (hj1 : 1 ≤ j) (hj : j ≤ 8) (t1 : 1 ≤ t) (t2 : t ≤ 8) (hz : z1 = z0) (hG : qb_G x5 x8 j) (hG9 : qb_G x6 x9 t) (h10 : x10 = if x8 = 0 then -1 else 0) (hF : qb_FP 0 j 0 z hn hf ln ll rv iu a7 a8 a9) (ho : qb_ob j 0 0 z 0 a1 a2 a3 a4) : wL_lawOf_169 post mc ms x1 x2 x3 x5 x6 x7 x8 x9 x10 z0 z1 kc ks hn hf ln ll rv sl ap wl ts fr fs iu a1 a2 a3 a4 a5 a6 a7 a8 a9 a10 a11 a12 a13 a14 a15 := by
  have H : ∀ z0 z1, z1 = z0 → wL_lawOf_212 post mc ms x1 x2 x3 x5 x6 x7 x8 x9 x10 z0 z1 kc ks hn hf ln ll rv sl ap wl ts fr fs iu a1 a2 a3 a4 a5 a6 a7 a8 a9 a10 a11 a12 a13 a14 a15 := fun z0 z1 h => qb_L212 hp hj1 hj t1 t2 h hG hG9 h10 hF ho
  have e0 := qb_ob_zi ho j hj1 hj
  have H2 : ∀ z0 z1, z1 = z0 → wL_lawOf_191 post mc ms x1 x2 x3 x5 x6 x7 x8 x9 x10 z0 z1 kc ks hn hf ln ll rv sl ap wl ts fr fs iu a1 a2 a3 a4 a5 a6 a7 a8 a9 a10 a11 a12 a13 a14 a15 := by
    intro z0 z1 h
    unfold wL_lawOf_191
    refine br_t h ?_
    rcases hG with ⟨g8, g5⟩ | ⟨g8, g5⟩
    · rw [g5] at H ⊢
      exact qb_resZ hj1 hj e0.1 (br_f (by rw [g8]; decide) (H _ _ rfl))
    · exact qb_resN g5 (br_t g8 (H _ _ rfl))
  unfold wL_lawOf_169
  refine br_t hz ?_
  rcases hG with ⟨g8, g5⟩ | ⟨g8, g5⟩
  · rw [g5] at H2 ⊢
    exact qb_keyZ hj1 hj e0.1 (br_f (by rw [g8]; decide) (H2 _ _ rfl))
  · exact qb_keyN g5 (br_t g8 (H2 _ _ rfl))
theorem qb_L113 (hp : post 1 ()) (hj1 : 1 ≤ j) (hj : j ≤ 8) (t1 : 1 ≤ t) (t2 : t ≤ 8) (hG : qb_G x5 x8 j) (hG9 : qb_G x6 x9 t) (h10 : z0 = if x8 = 0 then -1 else 0) (hF : qb_FP 0 j 0 z hn hf ln ll rv iu a7 a8 a9) (ho : qb_ob j 0 0 z 0 a1 a2 a3 a4) : wL_lawOf_113 post mc ms x1 x2 x3 x5 x6 x7 x8 x9 z0 kc ks hn hf ln ll rv sl ap wl ts fr fs iu a1 a2 a3 a4 a5 a6 a7 a8 a9 a10 a11 a12 a13 a14 a15 := by
  have H : ∀ y0 y1, y1 = y0 → wL_lawOf_169 post mc ms x1 x2 x3 x5 x6 x7 x8 x9 z0 y0 y1 kc ks hn hf ln ll rv sl ap wl ts fr fs iu a1 a2 a3 a4 a5 a6 a7 a8 a9 a10 a11 a12 a13 a14 a15 := fun y0 y1 h => qb_L169 hp hj1 hj t1 t2 h hG hG9 h10 hF ho
  have e0 := qb_ob_zi ho j hj1 hj
  unfold wL_lawOf_113
  rcases hG with ⟨g8, g5⟩ | ⟨g8, g5⟩
  · have ez : z0 = 0 := by
      rw [h10, g8]
      rfl
    rw [g5] at H ⊢
    exact qb_kindY hj1 hj (br_t (by rw [e0.1, ez]) (qb_sizeY hj1 hj (br_t (by rw [e0.2, ez]) (qb_valZ hj1 hj e0.2 (br_t rfl (qb_vkZ hj1 hj e0.2 (br_f (by rw [g8]; decide) (H _ _ rfl))))))))
  · have ez : z0 = -1 := by
      rw [h10, if_pos g8]
    exact qb_kindN g5 (br_t ez.symm (qb_sizeN g5 (br_t ez.symm (qb_valN g5 (br_t rfl (qb_vkN g5 (br_t g8 (H _ _ rfl))))))))
/-- an object's number, and whether it is good -/
theorem qb_Gx (x : Int32) : ∃ j, 1 ≤ j ∧ j ≤ 8 ∧ ((¬ x < 1 ∧ ¬ 8 < x ∧ qb_G x 1 j) ∨ ((x < 1 ∨ 8 < x) ∧ qb_G x 0 j)) := by
  by_cases h : qb_bd x
  · exact ⟨1, by omega, by omega, Or.inr ⟨h, Or.inr ⟨rfl, h⟩⟩⟩
  · obtain ⟨j, h1, h2, e⟩ := qb_bd_of h
    exact ⟨j, h1, h2, Or.inl ⟨fun c => h (Or.inl c), fun c => h (Or.inr c), Or.inl ⟨rfl, e⟩⟩⟩
theorem qb_L61 (hp : post 1 ()) (hF : ∀ j, qb_FP 0 j 0 0 hn hf ln ll rv iu a7 a8 a9) (ho : ∀ j, qb_ob j 0 0 0 0 a1 a2 a3 a4) : wL_lawOf_61 post mc ms x1 x2 x3 x5 x6 z0 kc ks hn hf ln ll rv sl ap wl ts fr fs iu a1 a2 a3 a4 a5 a6 a7 a8 a9 a10 a11 a12 a13 a14 a15 := by
  obtain ⟨j, hj1, hj, hx⟩ := qb_Gx x5
  obtain ⟨t, t1, t2, hy⟩ := qb_Gx x6
  have A : ∀ x8 x9, qb_G x5 x8 j → qb_G x6 x9 t → wL_lawOf_101 post mc ms x1 x2 x3 x5 x6 z0 x8 x9 kc ks hn hf ln ll rv sl ap wl ts fr fs iu a1 a2 a3 a4 a5 a6 a7 a8 a9 a10 a11 a12 a13 a14 a15 := by
    intro x8 x9 g8 g9
    unfold wL_lawOf_101
    exact br_c (fun c => qb_L113 hp hj1 hj t1 t2 g8 g9 (by rw [if_pos c]) (hF j) (ho j)) (fun c => qb_L113 hp hj1 hj t1 t2 g8 g9 (by rw [if_neg c]) (hF j) (ho j))
  have B : ∀ x8, qb_G x5 x8 j → wL_lawOf_81 post mc ms x1 x2 x3 x5 x6 z0 x8 kc ks hn hf ln ll rv sl ap wl ts fr fs iu a1 a2 a3 a4 a5 a6 a7 a8 a9 a10 a11 a12 a13 a14 a15 := by
    intro x8 g8
    unfold wL_lawOf_81
    rcases hy with ⟨y1, y2, g9⟩ | ⟨y1, g9⟩
    · exact br_f y1 (br_f y2 (A x8 1 g8 g9))
    · have C : wL_lawOf_100 post mc ms x1 x2 x3 x5 x6 z0 x8 kc ks hn hf ln ll rv sl ap wl ts fr fs iu a1 a2 a3 a4 a5 a6 a7 a8 a9 a10 a11 a12 a13 a14 a15 := by
        unfold wL_lawOf_100
        exact A x8 0 g8 g9
      refine br_c (fun _ => C) (fun c => br_t ?_ C)
      rcases y1 with y | y
      · exact absurd y c
      · exact y
  unfold wL_lawOf_61
  rcases hx with ⟨y1, y2, g8⟩ | ⟨y1, g8⟩
  · exact br_f y1 (br_f y2 (B 1 g8))
  · have C : wL_lawOf_80 post mc ms x1 x2 x3 x5 x6 z0 kc ks hn hf ln ll rv sl ap wl ts fr fs iu a1 a2 a3 a4 a5 a6 a7 a8 a9 a10 a11 a12 a13 a14 a15 := by
      unfold wL_lawOf_80
      exact B 0 g8
    refine br_c (fun _ => C) (fun c => br_t ?_ C)
    rcases y1 with y | y
    · exact absurd y c
    · exact y
theorem qb_L25 (hp : post 1 ()) (hF : ∀ j, qb_FP 0 j 0 0 hn hf ln ll rv iu a7 a8 a9) (ho : ∀ j, qb_ob j 0 0 0 0 a1 a2 a3 a4) : wL_lawOf_25 post mc ms x1 x2 x3 z0 kc ks hn hf ln ll rv sl ap wl ts fr fs iu a1 a2 a3 a4 a5 a6 a7 a8 a9 a10 a11 a12 a13 a14 a15 := by
  have A : ∀ y, wL_lawOf_43 post mc ms x1 x2 x3 z0 y kc ks hn hf ln ll rv sl ap wl ts fr fs iu a1 a2 a3 a4 a5 a6 a7 a8 a9 a10 a11 a12 a13 a14 a15 := by
    intro y
    unfold wL_lawOf_43
    exact br_c (fun _ => qb_L61 hp hF ho) (fun _ => qb_L61 hp hF ho)
  unfold wL_lawOf_25
  exact br_c (fun _ => A _) (fun _ => A _)
end
theorem qb_law {post : Int32 → St0 → Prop} {p0 p1 p2 p3 : Int32} (hp : post 1 ()) : wpL_lawOf post 16 8517 () p0 p1 p2 p3 := by
  unfold wpL_lawOf
  refine ⟨by omega, by omega, 15, 8490, by omega, by omega, ?_⟩
  unfold wpX_init
  dsimp only
  refine ⟨by omega, by omega, by omega, by omega, by omega, by omega, by omega, by omega, by omega, by omega, by omega, by omega, by omega, by omega, by omega, by omega, by omega, by omega, by omega, by omega, by omega, by omega, by omega, by omega, by omega, by omega, by omega, by omega, by omega, by omega, nm_e (nm_e (nm_e ?_))⟩
  have hF : ∀ j, qb_FP 0 j 0 0 1 0 0 (-1) 0 0 (fun _ => 0) (upd (upd (upd (fun _ => 0) 0 1) 5 1) 3 (-1)) (fun _ => 0) := fun j => Or.inr ⟨rfl, rfl, rfl, rfl, rfl, rfl, rfl, rfl, rfl, rfl, rfl, rfl, rfl, rfl⟩
  have ho : ∀ j, qb_ob j 0 0 0 0 (fun _ => 0) (fun _ => 0) (fun _ => 0) (fun _ => 0) := fun j => qb_ob_z (fun i _ _ => ⟨rfl, rfl⟩)
  exact br_c (fun _ => qb_L25 hp hF ho) (fun _ => qb_L25 hp hF ho)
end
section
theorem qb_cell {P : Int32 → Prop} {L : Nat} {xs : Nat → Int32} {i : Nat} (hL : L ≤ 4) (hi : i < 4) (hp : ∀ r, P r) : wpL_cellAt P L xs () (nI i) := by
  unfold wpL_cellAt
  refine pk_le L i (fun _ => hp 0) (fun c => ⟨vp_in_nI c (by omega), hp _⟩)
theorem i_vc (xs : Nat → Int32) (L : Nat) (hL : L ≤ 4) : wpL_law (fun r => r = 1) L xs := by
  unfold wpL_law
  exact qb_cell (i := 0) hL (by omega) (fun _ => qb_cell (i := 1) hL (by omega) (fun _ => qb_cell (i := 2) hL (by omega) (fun _ => qb_cell (i := 3) hL (by omega) (fun _ => ⟨16, 8517, by omega, by omega, qb_law rfl⟩))))
end
