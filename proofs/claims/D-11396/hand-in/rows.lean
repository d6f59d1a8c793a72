section
/-! symbols: the powers of 2 and which power each symbol is -/
def dl_pw (n : Nat) : Nat := [1, 2, 4, 3, 6, 7, 5, 1, 2, 4, 3, 6, 7, 5].getD n 0
def dl_lg (n : Nat) : Nat := [0, 0, 1, 3, 2, 6, 4, 5].getD n 0
def dl_mul (p q : Nat) : Nat := if p = 0 then 0 else if q = 0 then 0 else dl_pw (dl_lg p + dl_lg q)
def dl_quo (p q : Nat) : Nat := if p = 0 then 0 else dl_pw (dl_lg p + 7 - dl_lg q)
theorem dl_pwl (n : Nat) : dl_pw n < 8 := by
  by_cases h : n < 14
  · exact (show ∀ n, n < 14 → dl_pw n < 8 by decide +kernel) n h
  · unfold dl_pw
    rw [List.getD_eq_getElem?_getD, List.getElem?_eq_none (by simpa using h)]
    decide
theorem dl_mull (p q : Nat) : dl_mul p q < 8 := by
  unfold dl_mul
  split
  · decide
  · split
    · decide
    · exact dl_pwl _
theorem dl_quol (p q : Nat) : dl_quo p q < 8 := by
  unfold dl_quo
  split
  · decide
  · exact dl_pwl _
theorem dl_lgl : ∀ p, p < 8 → dl_lg p < 7 := by decide +kernel
theorem dl_xl {a b : Nat} (ha : a < 8) (hb : b < 8) : a ^^^ b < 8 := Nat.xor_lt_two_pow (n := 3) ha hb
theorem dl_lin : ∀ a, a < 8 → ∀ b, b < 8 → ∀ k, k < 8 → dl_mul (a ^^^ b) k = dl_mul a k ^^^ dl_mul b k := by decide +kernel
theorem dl_x4 (a b c d : Nat) : (a ^^^ b) ^^^ (c ^^^ d) = (a ^^^ c) ^^^ (b ^^^ d) := by
  rw [Nat.xor_assoc, Nat.xor_assoc, ← Nat.xor_assoc b c d, Nat.xor_comm b c, Nat.xor_assoc c b d]
/-! the sums of a word: Horner, n symbols from the top down -/
def dl_hor (w : Nat → Nat) (k : Nat) : Nat → Nat
  | 0 => 0
  | n + 1 => dl_mul (dl_hor w k n) (dl_pw k) ^^^ w (6 - n)
def dl_syn (w : Nat → Nat) (k : Nat) : Nat := dl_hor w k 7
theorem dl_horl {w : Nat → Nat} (hw : ∀ i, i < 7 → w i < 8) (k n : Nat) : dl_hor w k n < 8 := by
  cases n with
  | zero => show 0 < 8; decide
  | succ n => exact dl_xl (dl_mull _ _) (hw _ (by omega))
theorem dl_hor_lin {c e : Nat → Nat} (hc : ∀ i, i < 7 → c i < 8) (he : ∀ i, i < 7 → e i < 8) (k n : Nat) : dl_hor (fun i => c i ^^^ e i) k n = dl_hor c k n ^^^ dl_hor e k n := by
  induction n with
  | zero => show (0 : Nat) = 0 ^^^ 0; decide
  | succ n ih =>
    show dl_mul (dl_hor (fun i => c i ^^^ e i) k n) (dl_pw k) ^^^ (c (6 - n) ^^^ e (6 - n)) = (dl_mul (dl_hor c k n) (dl_pw k) ^^^ c (6 - n)) ^^^ (dl_mul (dl_hor e k n) (dl_pw k) ^^^ e (6 - n))
    rw [ih, dl_lin _ (dl_horl hc k n) _ (dl_horl he k n) _ (dl_pwl k), dl_x4]
theorem dl_hor_ext {w v : Nat → Nat} (h : ∀ i, i < 7 → w i = v i) (k n : Nat) : dl_hor w k n = dl_hor v k n := by
  induction n with
  | zero => rfl
  | succ n ih =>
    show dl_mul (dl_hor w k n) (dl_pw k) ^^^ w (6 - n) = dl_mul (dl_hor v k n) (dl_pw k) ^^^ v (6 - n)
    rw [ih, h _ (by omega)]
/-- all of the first n numbers are zero: 1, else 0 -/
def dl_zr (S : Nat → Nat) : Nat → Nat
  | 0 => 1
  | n + 1 => if S n = 0 then dl_zr S n else 0
theorem dl_zr_01 (S : Nat → Nat) (n : Nat) : dl_zr S n = 0 ∨ dl_zr S n = 1 := by
  induction n with
  | zero => exact Or.inr rfl
  | succ n ih =>
    show (if S n = 0 then dl_zr S n else 0) = 0 ∨ (if S n = 0 then dl_zr S n else 0) = 1
    split
    · exact ih
    · exact Or.inl rfl
theorem dl_zr_1 {S : Nat → Nat} {n : Nat} (h : ∀ j, j < n → S j = 0) : dl_zr S n = 1 := by
  induction n with
  | zero => rfl
  | succ n ih =>
    show (if S n = 0 then dl_zr S n else 0) = 1
    rw [if_pos (h n (by omega))]
    exact ih (fun j hj => h j (by omega))
theorem dl_zr_ext {S R : Nat → Nat} {n : Nat} (h : ∀ j, j < n → S j = R j) : dl_zr S n = dl_zr R n := by
  induction n with
  | zero => rfl
  | succ n ih =>
    show (if S n = 0 then dl_zr S n else 0) = (if R n = 0 then dl_zr R n else 0)
    rw [h n (by omega), ih (fun j hj => h j (by omega))]
/-! the shortest recurrence, step by step -/
def dl_flt (S loc : Nat → Nat) (n : Nat) : Nat → Nat
  | 0 => S n
  | i + 1 => dl_flt S loc n i ^^^ dl_mul (loc (i + 1)) (S (n - (i + 1)))
def dl_nl (loc old : Nat → Nat) (aw f : Nat) : Nat → Nat := fun i => if aw ≤ i then loc i ^^^ dl_mul f (old (i - aw)) else loc i
def dl_one : Nat → Nat := fun i => if i = 0 then 1 else 0
def dl_bm1 (S : Nat → Nat) (n : Nat) (s : Nat × Nat × Nat × (Nat → Nat) × (Nat → Nat)) : Nat × Nat × Nat × (Nat → Nat) × (Nat → Nat) :=
  if dl_flt S s.2.2.2.1 n s.1 = 0 then (s.1, s.2.1 + 1, s.2.2.1, s.2.2.2.1, s.2.2.2.2)
  else if n < 2 * s.1 then (s.1, s.2.1 + 1, s.2.2.1, dl_nl s.2.2.2.1 s.2.2.2.2 s.2.1 (dl_quo (dl_flt S s.2.2.2.1 n s.1) s.2.2.1), s.2.2.2.2)
  else (n + 1 - s.1, 1, dl_flt S s.2.2.2.1 n s.1, dl_nl s.2.2.2.1 s.2.2.2.2 s.2.1 (dl_quo (dl_flt S s.2.2.2.1 n s.1) s.2.2.1), s.2.2.2.1)
def dl_bm (S : Nat → Nat) : Nat → Nat × Nat × Nat × (Nat → Nat) × (Nat → Nat)
  | 0 => (0, 1, 1, dl_one, dl_one)
  | n + 1 => dl_bm1 S n (dl_bm S n)
theorem dl_fltl {S loc : Nat → Nat} (hS : ∀ j, j < 4 → S j < 8) {n : Nat} (hn : n < 4) (i : Nat) : dl_flt S loc n i < 8 := by
  cases i with
  | zero => exact hS n hn
  | succ i =>
    induction i with
    | zero => exact dl_xl (hS n hn) (dl_mull _ _)
    | succ i ih => exact dl_xl ih (dl_mull _ _)
/-- what the state of the recurrence keeps to -/
def dl_ok (n : Nat) (s : Nat × Nat × Nat × (Nat → Nat) × (Nat → Nat)) : Prop := s.1 ≤ n ∧ 1 ≤ s.2.1 ∧ s.2.1 ≤ n + 1 ∧ 0 < s.2.2.1 ∧ s.2.2.1 < 8 ∧ (∀ i, i < 5 → s.2.2.2.1 i < 8) ∧ (∀ i, i < 5 → s.2.2.2.2 i < 8)
theorem dl_onel : ∀ i, i < 5 → dl_one i < 8 := by decide +kernel
theorem dl_nll {loc old : Nat → Nat} {aw f : Nat} (h : ∀ i, i < 5 → loc i < 8) : ∀ i, i < 5 → dl_nl loc old aw f i < 8 := by
  intro i hi
  unfold dl_nl
  split
  · exact dl_xl (h i hi) (dl_mull _ _)
  · exact h i hi
theorem dl_ok1 {S : Nat → Nat} (hS : ∀ j, j < 4 → S j < 8) {n : Nat} (hn : n < 4) {s : Nat × Nat × Nat × (Nat → Nat) × (Nat → Nat)} (h : dl_ok n s) : dl_ok (n + 1) (dl_bm1 S n s) := by
  obtain ⟨h1, h2, h3, h4, h5, h6, h7⟩ := h
  unfold dl_bm1
  split
  · exact ⟨Nat.le_succ_of_le h1, Nat.le_succ_of_le h2, Nat.succ_le_succ h3, h4, h5, h6, h7⟩
  · rename_i hf
    split
    · exact ⟨Nat.le_succ_of_le h1, Nat.le_succ_of_le h2, Nat.succ_le_succ h3, h4, h5, dl_nll h6, h7⟩
    · exact ⟨Nat.sub_le _ _, Nat.le_refl 1, Nat.succ_le_succ (Nat.zero_le _), Nat.pos_of_ne_zero hf, dl_fltl hS hn _, dl_nll h6, h6⟩
theorem dl_okn {S : Nat → Nat} (hS : ∀ j, j < 4 → S j < 8) : ∀ n, n ≤ 4 → dl_ok n (dl_bm S n) := by
  intro n
  induction n with
  | zero => exact fun _ => ⟨Nat.le_refl 0, Nat.le_refl 1, Nat.le_refl 1, (show 0 < 1 by decide), (show 1 < 8 by decide), dl_onel, dl_onel⟩
  | succ n ih => exact fun hn => dl_ok1 hS (by omega) (ih (by omega))
/-! the numbers by which the sums are explained, and the mending -/
def dl_evs (S loc : Nat → Nat) (n : Nat) : Nat → Nat
  | 0 => 0
  | i + 1 => dl_evs S loc n i ^^^ dl_mul (loc i) (S (n - i))
def dl_ev (S loc : Nat → Nat) (n : Nat) : Nat := dl_evs S loc n (n + 1)
theorem dl_evsl (S loc : Nat → Nat) (n i : Nat) : dl_evs S loc n i < 8 := by
  induction i with
  | zero => show 0 < 8; decide
  | succ i ih => exact dl_xl ih (dl_mull _ _)
def dl_val (loc : Nat → Nat) (v : Nat) : Nat → Nat
  | 0 => 0
  | d + 1 => dl_val loc v d ^^^ dl_mul (loc d) (dl_pw (v * d % 7))
def dl_slp (loc : Nat → Nat) (v : Nat) : Nat → Nat
  | 0 => 0
  | d + 1 => if d % 2 = 1 then dl_slp loc v d ^^^ dl_mul (loc d) (dl_pw (v * (d - 1) % 7)) else dl_slp loc v d
theorem dl_vall (loc : Nat → Nat) (v d : Nat) : dl_val loc v d < 8 := by
  induction d with
  | zero => show 0 < 8; decide
  | succ d ih => exact dl_xl ih (dl_mull _ _)
theorem dl_slpl (loc : Nat → Nat) (v d : Nat) : dl_slp loc v d < 8 := by
  induction d with
  | zero => show 0 < 8; decide
  | succ d ih =>
    show (if d % 2 = 1 then dl_slp loc v d ^^^ dl_mul (loc d) (dl_pw (v * (d - 1) % 7)) else dl_slp loc v d) < 8
    split
    · exact dl_xl ih (dl_mull _ _)
    · exact ih
def dl_cor (loc ev : Nat → Nat) (i : Nat) : Nat := if dl_val loc ((7 - i) % 7) 5 = 0 then (if dl_slp loc ((7 - i) % 7) 5 = 0 then 0 else dl_quo (dl_val ev ((7 - i) % 7) 4) (dl_slp loc ((7 - i) % 7) 5)) else 0
theorem dl_corl (loc ev : Nat → Nat) (i : Nat) : dl_cor loc ev i < 8 := by
  unfold dl_cor
  split
  · split
    · decide
    · exact dl_quol _ _
  · decide
def dl_cnt (c : Nat → Nat) : Nat → Nat
  | 0 => 0
  | i + 1 => if c i = 0 then dl_cnt c i else dl_cnt c i + 1
theorem dl_cntl (c : Nat → Nat) (i : Nat) : dl_cnt c i ≤ i := by
  induction i with
  | zero => exact Nat.le_refl 0
  | succ i ih =>
    show (if c i = 0 then dl_cnt c i else dl_cnt c i + 1) ≤ i + 1
    split <;> omega
theorem dl_cnt_ext {c e : Nat → Nat} {n : Nat} (h : ∀ i, i < n → c i = e i) : dl_cnt c n = dl_cnt e n := by
  induction n with
  | zero => rfl
  | succ n ih =>
    show (if c n = 0 then dl_cnt c n else dl_cnt c n + 1) = (if e n = 0 then dl_cnt e n else dl_cnt e n + 1)
    rw [h n (by omega), ih (fun j hj => h j (by omega))]
/-- the four sums of a pattern of wrong symbols -/
def dl_sy (e : Nat → Nat) : Nat → Nat := fun k => dl_syn e (k + 1)
/-- the pattern e of wrong symbols, whose sums are S, is found and mended -/
abbrev dl_good (e S : Nat → Nat) : Prop :=
  (dl_zr S 4 = 1 ∧ dl_cnt e 7 = 0 ∧ ∀ i, i < 7 → e i = 0) ∨
  (dl_zr S 4 = 0 ∧ (dl_bm S 4).1 ≤ 2 ∧ (dl_bm S 4).1 = dl_cnt e 7 ∧ ∀ i, i < 7 → dl_cor (dl_bm S 4).2.2.2.1 (dl_ev S (dl_bm S 4).2.2.2.1) i = e i)
end
section
/-! what is found out by trying all cases -/
/-- at most two wrong symbols: at p by v, at q by u (7: nowhere) -/
def dl_e (p v q u : Nat) : Nat → Nat := fun i => (if i = p then v else 0) ^^^ (if i = q then u else 0)
def dl_gb (e S : Nat → Nat) : Bool := (decide (dl_zr S 4 = 1) && (decide (dl_cnt e 7 = 0) && (List.range 7).all (fun i => decide (e i = 0)))) ||
  (decide (dl_zr S 4 = 0) && (decide ((dl_bm S 4).1 ≤ 2) && (decide ((dl_bm S 4).1 = dl_cnt e 7) && (List.range 7).all (fun i => decide (dl_cor (dl_bm S 4).2.2.2.1 (dl_ev S (dl_bm S 4).2.2.2.1) i = e i)))))
theorem dl_gb_good {e S : Nat → Nat} (h : dl_gb e S = true) : dl_good e S := by
  unfold dl_gb at h
  rw [Bool.or_eq_true, Bool.and_eq_true, Bool.and_eq_true, Bool.and_eq_true, Bool.and_eq_true, Bool.and_eq_true, decide_eq_true_iff, decide_eq_true_iff, decide_eq_true_iff, decide_eq_true_iff, decide_eq_true_iff] at h
  rcases h with ⟨h1, h2, h3⟩ | ⟨h1, h2, h3, h4⟩
  · exact Or.inl ⟨h1, h2, fun i hi => co_dec (P := fun i => e i = 0) h3 hi⟩
  · exact Or.inr ⟨h1, h2, h3, fun i hi => co_dec (P := fun i => dl_cor (dl_bm S 4).2.2.2.1 (dl_ev S (dl_bm S 4).2.2.2.1) i = e i) h4 hi⟩
set_option maxRecDepth 100000 in
set_option maxHeartbeats 0 in
theorem dl_allb : ∀ p, p < 8 → ∀ q, q < 8 → ∀ v, v < 3 → ∀ u, u < 3 → dl_gb (dl_e p (2 ^ (2 - v)) q (2 ^ (2 - u))) (dl_sy (dl_e p (2 ^ (2 - v)) q (2 ^ (2 - u)))) = true := by decide +kernel
theorem dl_all (p : Nat) (hp : p < 8) (q : Nat) (hq : q < 8) (v : Nat) (hv : v < 3) (u : Nat) (hu : u < 3) : dl_good (dl_e p (2 ^ (2 - v)) q (2 ^ (2 - u))) (dl_sy (dl_e p (2 ^ (2 - v)) q (2 ^ (2 - u)))) := dl_gb_good (dl_allb p hp q hq v hv u hu)
/-! coding: the register, the word -/
def dl_g (i : Nat) : Nat := [3, 2, 1, 3, 1].getD i 0
def dl_rs (r : Nat → Nat) (s : Nat) : Nat → Nat := fun i => if i = 0 then dl_mul (s ^^^ r 3) (dl_g 0) else r (i - 1) ^^^ dl_mul (s ^^^ r 3) (dl_g i)
def dl_z : Nat → Nat := fun _ => 0
def dl_cw (s0 s1 s2 : Nat) : Nat → Nat := fun i => if i < 4 then dl_rs (dl_rs (dl_rs dl_z s2) s1) s0 i else if i = 4 then s0 else if i = 5 then s1 else s2
set_option maxRecDepth 100000 in
set_option maxHeartbeats 0 in
theorem dl_cw0 : ∀ s0, s0 < 8 → ∀ s1, s1 < 8 → ∀ s2, s2 < 8 → ∀ k, k < 4 → dl_syn (dl_cw s0 s1 s2) (k + 1) = 0 := by decide +kernel
set_option maxRecDepth 100000 in
set_option maxHeartbeats 0 in
theorem dl_cwl : ∀ s0, s0 < 8 → ∀ s1, s1 < 8 → ∀ s2, s2 < 8 → ∀ i, i < 7 → dl_cw s0 s1 s2 i < 8 := by decide +kernel
/-! the flips: what symbol j is wrong by if bit f is turned -/
def dl_E (f j : Nat) : Nat := if 8 ≤ f then (if (f - 8) / 3 = j then 2 ^ (2 - (f - 8) % 3) else 0) else 0
def dl_p (f h : Nat) : Nat := if 8 ≤ f then (if (f - 8) / 3 % 2 = h then (f - 8) / 3 / 2 else 7) else 7
theorem dl_pl : ∀ f, f < 50 → ∀ h, h < 2 → dl_p f h < 8 := by decide +kernel
theorem dl_Ep : ∀ f, f < 50 → ∀ h, h < 2 → ∀ i, i < 7 → dl_E f (2 * i + h) = if i = dl_p f h then 2 ^ (2 - (f - 8) % 3) else 0 := by decide +kernel
theorem dl_El : ∀ f, f < 50 → ∀ j, j < 14 → dl_E f j < 8 := by decide +kernel
def dl_md (i j : Nat) : Nat := if i = j then 0 else if 8 ≤ i then (if (i - 8) / 3 = (j - 8) / 3 then 1 else 2) else 1
def dl_ww (i j h : Nat) : Nat → Nat := fun t => dl_E i (2 * t + h) ^^^ dl_E j (2 * t + h)
set_option maxRecDepth 100000 in
set_option maxHeartbeats 0 in
theorem dl_wts : ∀ i, i < 50 → ∀ j, j < 42 → dl_cnt (dl_ww i (8 + j) 0) 7 + dl_cnt (dl_ww i (8 + j) 1) 7 = dl_md i (8 + j) := by decide +kernel
theorem dl_bm_ext {S R : Nat → Nat} (h : S = R) (n : Nat) : dl_bm S n = dl_bm R n := by rw [h]
theorem dl_good_ext {e d : Nat → Nat} (h : ∀ i, i < 7 → d i = e i) (g : dl_good e (dl_sy e)) : dl_good d (dl_sy d) := by
  have hs : dl_sy d = dl_sy e := funext fun k => dl_hor_ext h (k + 1) 7
  rw [hs]
  have hc : dl_cnt d 7 = dl_cnt e 7 := dl_cnt_ext h
  rcases g with ⟨g1, g2, g3⟩ | ⟨g1, g2, g3, g4⟩
  · exact Or.inl ⟨g1, hc.trans g2, fun i hi => (h i hi).trans (g3 i hi)⟩
  · exact Or.inr ⟨g1, g2, g3.trans hc.symm, fun i hi => (g4 i hi).trans (h i hi).symm⟩
theorem dl_ww_good {i j h : Nat} (hi : i < 50) (hj : j < 50) (hh : h < 2) : dl_good (dl_ww i j h) (dl_sy (dl_ww i j h)) := by
  refine dl_good_ext (fun t ht => ?_) (dl_all (dl_p i h) (dl_pl i hi h hh) (dl_p j h) (dl_pl j hj h hh) ((i - 8) % 3) (Nat.mod_lt _ (by decide)) ((j - 8) % 3) (Nat.mod_lt _ (by decide)))
  show dl_E i (2 * t + h) ^^^ dl_E j (2 * t + h) = _
  rw [dl_Ep i hi h hh t ht, dl_Ep j hj h hh t ht]
  rfl
end
section
theorem nx_and (a b : Nat) : nI a &&& nI b = nI (a &&& b) := by
  apply Int32.toBitVec_inj.1
  show BitVec.ofNat 32 a &&& BitVec.ofNat 32 b = BitVec.ofNat 32 (a &&& b)
  apply BitVec.eq_of_getLsbD_eq
  intro i hi
  simp [hi]
theorem nx_xor (a b : Nat) : nI a ^^^ nI b = nI (a ^^^ b) := by
  apply Int32.toBitVec_inj.1
  show BitVec.ofNat 32 a ^^^ BitVec.ofNat 32 b = BitVec.ofNat 32 (a ^^^ b)
  apply BitVec.eq_of_getLsbD_eq
  intro i hi
  simp [hi]
theorem wb_tb (n : Nat) : (lN n).toBitVec = BitVec.ofNat 64 n := rfl
theorem wb_inj {a b : Int64} (h : a.toBitVec = b.toBitVec) : a = b := Int64.toBitVec_inj.mp h
theorem wb_tn {n : Nat} (h : n < 2 ^ 64) : (lN n).toBitVec.toNat = n := by rw [wb_tb, BitVec.toNat_ofNat, Nat.mod_eq_of_lt h]
theorem wb_of (x : Int64) : ∃ n, n < 2 ^ 64 ∧ x = lN n := ⟨x.toBitVec.toNat, x.toBitVec.isLt, wb_inj (by rw [wb_tb]; simp)⟩
theorem wb_of32 (x : Int32) : ∃ n, n < 2 ^ 32 ∧ x = nI n := ⟨x.toBitVec.toNat, x.toBitVec.isLt, Int32.toBitVec_inj.mp (by show _ = BitVec.ofNat 32 _; simp)⟩
theorem wb_c : ∀ k, k < 64 → ((nI k).toInt64 &&& 63) = lN k := by decide +kernel
theorem wb_cu : ∀ k, k < 64 → ((nI k).toInt64.toUInt64 &&& Int64.toUInt64 63) = UInt64.ofNat k := by decide +kernel
theorem wb_sm : ∀ k, k < 64 → (BitVec.ofNat 64 k).smod 64 = BitVec.ofNat 64 k := by decide +kernel
theorem wb_pw {a b : Nat} (h : a ≤ b) : 2 ^ b = 2 ^ a * 2 ^ (b - a) := by rw [← Nat.pow_add]; congr 1; omega
theorem wb_lt2 {a b : Nat} (h : a < b) : 2 ^ a < 2 ^ b := Nat.pow_lt_pow_right (by decide) h
theorem wb_mod (n : Nat) : lN n = lN (n % 2 ^ 64) := wb_inj (by rw [wb_tb, wb_tb]; apply BitVec.eq_of_toNat_eq; rw [BitVec.toNat_ofNat, BitVec.toNat_ofNat, Nat.mod_mod])
theorem wb_shr {n k : Nat} (hn : n < 2 ^ 64) (hk : k < 64) : ((lN n).toUInt64 >>> ((nI k).toInt64.toUInt64 &&& Int64.toUInt64 63)).toInt64 = lN (n / 2 ^ k) := by
  rw [wb_cu k hk]
  apply wb_inj
  apply BitVec.eq_of_toNat_eq
  show ((lN n).toUInt64 >>> UInt64.ofNat k).toNat = (BitVec.ofNat 64 _).toNat
  have h1 : (UInt64.ofNat k).toNat = k := by
    show (BitVec.ofNat 64 k).toNat = k
    rw [BitVec.toNat_ofNat, Nat.mod_eq_of_lt (by omega)]
  have h2 : (lN n).toUInt64.toNat = n := wb_tn hn
  rw [UInt64.toNat_shiftRight, h1, h2, Nat.mod_eq_of_lt hk, Nat.shiftRight_eq_div_pow, BitVec.toNat_ofNat, Nat.mod_eq_of_lt (Nat.lt_of_le_of_lt (Nat.div_le_self _ _) hn)]
theorem wb_shl (n : Nat) {k : Nat} (hk : k < 64) : lN n <<< ((nI k).toInt64 &&& 63) = lN (n * 2 ^ k) := by
  rw [wb_c k hk]
  apply wb_inj
  rw [Int64.toBitVec_shiftLeft, wb_tb, wb_tb, wb_tb, wb_sm k hk]
  apply BitVec.eq_of_toNat_eq
  rw [BitVec.shiftLeft_eq', BitVec.toNat_shiftLeft, BitVec.toNat_ofNat, BitVec.toNat_ofNat, BitVec.toNat_ofNat, Nat.mod_eq_of_lt (show k < 2 ^ 64 by omega), Nat.shiftLeft_eq, Nat.mul_mod, Nat.mod_mod, ← Nat.mul_mod]
theorem wb_and {a b : Nat} (ha : a < 2 ^ 64) (hb : b < 2 ^ 64) : lN a &&& lN b = lN (a &&& b) := by
  apply wb_inj
  rw [Int64.toBitVec_and, wb_tb, wb_tb, wb_tb]
  apply BitVec.eq_of_toNat_eq
  rw [BitVec.toNat_and, BitVec.toNat_ofNat, BitVec.toNat_ofNat, BitVec.toNat_ofNat, Nat.mod_eq_of_lt ha, Nat.mod_eq_of_lt hb, Nat.mod_eq_of_lt (Nat.and_lt_two_pow _ hb)]
theorem wb_or {a b : Nat} (ha : a < 2 ^ 64) (hb : b < 2 ^ 64) : lN a ||| lN b = lN (a ||| b) := by
  apply wb_inj
  rw [Int64.toBitVec_or, wb_tb, wb_tb, wb_tb]
  apply BitVec.eq_of_toNat_eq
  rw [BitVec.toNat_or, BitVec.toNat_ofNat, BitVec.toNat_ofNat, BitVec.toNat_ofNat, Nat.mod_eq_of_lt ha, Nat.mod_eq_of_lt hb, Nat.mod_eq_of_lt (Nat.or_lt_two_pow ha hb)]
theorem wb_mask {n k : Nat} (hn : n < 2 ^ 64) (hk : k < 64) : lN n &&& lN (2 ^ k - 1) = lN (n % 2 ^ k) := by
  rw [wb_and hn (by have := wb_lt2 hk; omega), Nat.and_two_pow_sub_one_eq_mod]
theorem wb_a1 {n : Nat} (hn : n < 2 ^ 64) : lN n &&& 1 = lN (n % 2) := wb_mask (k := 1) hn (by decide)
theorem wb_bit {n k : Nat} (hn : n < 2 ^ 64) (hk : k < 64) : ((lN n).toUInt64 >>> ((nI k).toInt64.toUInt64 &&& Int64.toUInt64 63)).toInt64 &&& 1 = lN (n / 2 ^ k % 2) := by
  rw [wb_shr hn hk, wb_a1 (Nat.lt_of_le_of_lt (Nat.div_le_self _ _) hn)]
theorem dl_or (a b : Nat) : nI a ||| nI b = nI (a ||| b) := by
  apply Int32.toBitVec_inj.1
  show BitVec.ofNat 32 a ||| BitVec.ofNat 32 b = BitVec.ofNat 32 (a ||| b)
  apply BitVec.eq_of_getLsbD_eq
  intro i hi
  simp [hi]
theorem dl_by : ∀ v, v < 8 → (nI v).toInt8.toInt32 = nI v := by decide +kernel
theorem dl_nb {v : Nat} (h : v < 8) : vp_nar .byte (nI v) = nI v := by rw [vp_nar_byte, dl_by v h]
/-! the line: bit i of a word of it -/
def dl_bit (w : Int64) (i : Nat) : Nat := (w.toBitVec.getLsbD i).toNat
theorem dl_bitl (w : Int64) (i : Nat) : dl_bit w i < 2 := by
  unfold dl_bit
  cases w.toBitVec.getLsbD i <;> decide
theorem dl_sh1 : ∀ i, i < 60 → ((1 : Int64) <<< ((nI i).toInt64 &&& 63)).toBitVec = BitVec.twoPow 64 i := by decide +kernel
theorem dl_bor (w : Int64) {i j : Nat} (hi : i < 60) (hj : j < 60) : dl_bit (w ||| ((1 : Int64) <<< ((nI i).toInt64 &&& 63))) j = if j = i then 1 else dl_bit w j := by
  unfold dl_bit
  rw [Int64.toBitVec_or, dl_sh1 i hi, BitVec.getLsbD_or, BitVec.getLsbD_twoPow]
  by_cases e : j = i
  · subst e
    rw [if_pos rfl]
    simp [show j < 64 by omega]
  · rw [if_neg e]
    simp [show ¬ i = j by omega]
theorem dl_band (w : Int64) {i j : Nat} (hi : i < 60) (hj : j < 60) : dl_bit (w &&& (((1 : Int64) <<< ((nI i).toInt64 &&& 63)) ^^^ (-1))) j = if j = i then 0 else dl_bit w j := by
  unfold dl_bit
  rw [Int64.toBitVec_and, Int64.toBitVec_xor, dl_sh1 i hi, show (-1 : Int64).toBitVec = BitVec.allOnes 64 from rfl, BitVec.getLsbD_and, BitVec.getLsbD_xor, BitVec.getLsbD_twoPow, BitVec.getLsbD_allOnes]
  by_cases e : j = i
  · subst e
    rw [if_pos rfl]
    simp [show j < 64 by omega]
  · rw [if_neg e]
    simp [show ¬ i = j by omega, show j < 64 by omega]
theorem dl_bget (w : Int64) {i : Nat} (hi : i < 64) : (((w.toUInt64 >>> ((nI i).toInt64.toUInt64 &&& Int64.toUInt64 63)).toInt64) &&& 1).toInt32 = nI (dl_bit w i) := by
  obtain ⟨n, hn, rfl⟩ := wb_of w
  rw [wb_bit hn hi, lN_i]
  unfold dl_bit
  rw [wb_tb, BitVec.getLsbD_ofNat, Nat.testBit_eq_decide_div_mod_eq]
  have h2 : n / 2 ^ i % 2 < 2 := Nat.mod_lt _ (by decide)
  rcases (show n / 2 ^ i % 2 = 0 ∨ n / 2 ^ i % 2 = 1 by omega) with h | h
  · rw [h]; simp
  · rw [h]; simp [hi]
section
variable {bc rc fc mc : Int32} {a1 a2 a3 : Nat → Int32} {a4 : Nat → Int64} {a5 a6 a7 a8 a9 a10 a11 : Nat → Int32}
theorem dl_d60 {i : Nat} (hi : i < 60) : nI i / 60 = nI 0 := by
  show nI i / nI 60 = nI 0
  rw [pk_div (by omega) (by decide) (by decide), Nat.div_eq_of_lt hi]
theorem dl_m60 {i : Nat} (hi : i < 60) : nI i - nI i / 60 * 60 = nI i := by
  show nI i - nI i / nI 60 * nI 60 = nI i
  rw [pk_rem (by omega) (by decide) (by decide), Nat.mod_eq_of_lt hi]
theorem dl_c0 : (nI 0).toNatClampNeg = 0 := nI_clamp (by decide)
theorem dl_set {post : St2 → Prop} {x y : Int32} (i v : Nat) (hi : i < 60) (hv : v < 2)
    (H : ∀ a : Nat → Int64, (∀ j, j < 60 → dl_bit (a 0) j = if j = i then v else dl_bit (a4 0) j) → post (bc, rc, fc, mc, a1, a2, a3, a, a5, a6, a7, a8, a9, a10, a11))
    (hx : x = nI i := by rfl) (hy : y = nI v := by rfl) : wpX_setBit post (bc, rc, fc, mc, a1, a2, a3, a4, a5, a6, a7, a8, a9, a10, a11) x y := by
  subst hx hy
  unfold wpX_setBit
  dsimp only
  rw [dl_m60 hi, dl_d60 hi, dl_c0]
  refine ⟨by decide, nm_e (pk_eq v 1 (fun z => ⟨by decide, pk_in 0 5 (by decide), pk_in 0 5 (by decide), nm_e (H _ (fun j hj => ?_))⟩) (fun z => ⟨by decide, pk_in 0 5 (by decide), pk_in 0 5 (by decide), nm_e (H _ (fun j hj => ?_))⟩))⟩
  · rw [pk_uLs, dl_bor _ hi hj, z]
  · rw [pk_uLs, dl_band _ hi hj, show v = 0 by omega]
theorem dl_get {post : Int32 → Prop} {x : Int32} (i : Nat) (hi : i < 60) (H : post (nI (dl_bit (a4 0) i))) (hx : x = nI i := by rfl) : wpX_bitAt post (bc, rc, fc, mc, a1, a2, a3, a4, a5, a6, a7, a8, a9, a10, a11) x := by
  subst hx
  unfold wpX_bitAt
  dsimp only
  rw [dl_m60 hi, dl_d60 hi, dl_c0, dl_bget _ (by omega)]
  exact ⟨by decide, pk_in 0 5 (by decide), by decide, H⟩
/-! symbols -/
/-- the tables: powers and logarithms -/
def dl_T (b1 b2 : Nat → Int32) : Prop := (∀ j, j < 14 → b1 j = nI (dl_pw j)) ∧ (∀ j, 0 < j → j < 8 → b2 j = nI (dl_lg j))
theorem dl_prod {post : Int32 → Prop} {x y : Int32} (T : dl_T a1 a2) (p q : Nat) (hp : p < 8) (hq : q < 8) (H : post (nI (dl_mul p q))) (hx : x = nI p := by rfl) (hy : y = nI q := by rfl) : wpX_product post (bc, rc, fc, mc, a1, a2, a3, a4, a5, a6, a7, a8, a9, a10, a11) x y := by
  subst hx hy
  refine pk_eq p 0 (fun z => ?_) (fun z => pk_eq q 0 (fun z' => ?_) (fun z' => ⟨pk_in p 8 hp, pk_in q 8 hq, ?_⟩))
  · have e : dl_mul p q = 0 := by unfold dl_mul; rw [if_pos z]
    rw [e] at H
    exact H
  · have e : dl_mul p q = 0 := by unfold dl_mul; rw [if_neg z, if_pos z']
    rw [e] at H
    exact H
  · have l1 := dl_lgl p hp
    have l2 := dl_lgl q hq
    have e : dl_mul p q = dl_pw (dl_lg p + dl_lg q) := by unfold dl_mul; rw [if_neg z, if_neg z']
    rw [e] at H
    rw [nI_clamp (show p < 2 ^ 31 by omega), nI_clamp (show q < 2 ^ 31 by omega), T.2 p (by omega) hp, T.2 q (by omega) hq, nI_add]
    refine ⟨pk_in (dl_lg p + dl_lg q) 14 (by omega), ?_⟩
    rw [nI_clamp (by omega), T.1 _ (by omega)]
    exact H
theorem dl_quot {post : Int32 → Prop} {x y : Int32} (T : dl_T a1 a2) (p q : Nat) (hp : p < 8) (h0 : 0 < q) (hq : q < 8) (H : post (nI (dl_quo p q))) (hx : x = nI p := by rfl) (hy : y = nI q := by rfl) : wpX_quotient post (bc, rc, fc, mc, a1, a2, a3, a4, a5, a6, a7, a8, a9, a10, a11) x y := by
  subst hx hy
  refine pk_eq p 0 (fun z => ?_) (fun z => ⟨pk_in p 8 hp, pk_in q 8 hq, ?_⟩)
  · have e : dl_quo p q = 0 := by unfold dl_quo; rw [if_pos z]
    rw [e] at H
    exact H
  · have l1 := dl_lgl p hp
    have l2 := dl_lgl q hq
    have e : dl_quo p q = dl_pw (dl_lg p + 7 - dl_lg q) := by unfold dl_quo; rw [if_neg z]
    rw [e] at H
    rw [nI_clamp (show p < 2 ^ 31 by omega), nI_clamp (show q < 2 ^ 31 by omega), T.2 p (by omega) hp, T.2 q (by omega) hq, show nI (dl_lg p) + 7 - nI (dl_lg q) = nI (dl_lg p + 7 - dl_lg q) from by rw [← pk_sub (by omega), ← nI_add]; rfl]
    refine ⟨pk_in (dl_lg p + 7 - dl_lg q) 14 (by omega), ?_⟩
    rw [nI_clamp (by omega), T.1 _ (by omega)]
    exact H
/-! which bit goes where -/
def dl_scr (j : Nat) : Nat := (j * j + 3 * j + 5) % 8
theorem dl_scrl (j : Nat) : dl_scr j < 8 := Nat.mod_lt _ (by decide)
theorem dl_scram {post : Int32 → Prop} {x : Int32} (j : Nat) (hj : j < 14) (H : post (nI (dl_scr j))) (hx : x = nI j := by rfl) : wpX_scramble post (bc, rc, fc, mc, a1, a2, a3, a4, a5, a6, a7, a8, a9, a10, a11) x := by
  subst hx
  unfold wpX_scramble
  dsimp only
  rw [show (nI j * nI j + 3 * nI j + 5) &&& 7 = nI (dl_scr j) from (show ∀ j, j < 14 → (nI j * nI j + 3 * nI j + 5) &&& 7 = nI (dl_scr j) by decide +kernel) j hj]
  exact H
end
end
section
/-! the constructor: the tables and the generator -/
theorem dl_upd {s : Nat → Int32} {f g : Nat → Nat} {N k y : Nat} {v : Int32} (hk : y = k) (h : ∀ j, j < N → s j = nI (f j)) (hv : v = nI (g k)) (hg : ∀ j, j < N → j ≠ k → g j = f j) : ∀ j, j < N → upd s y v j = nI (g j) := by
  subst hk
  intro j hj
  by_cases e : j = y
  · rw [e, pk_us, hv]
  · rw [pk_un e, h j hj, hg j hj e]
def dl_G : Nat → Nat → Nat
  | 0 => fun j => if j = 0 then 1 else 0
  | k + 1 => fun j => if j = 0 then dl_mul (dl_G k 0) (dl_pw (k + 1)) else dl_G k (j - 1) ^^^ dl_mul (dl_G k j) (dl_pw (k + 1))
theorem dl_Gl : ∀ k, k < 5 → ∀ j, j < 5 → dl_G k j < 8 := by decide +kernel
theorem dl_Gz : ∀ k, k < 4 → ∀ j, j < 5 → k + 1 < j → dl_G (k + 1) j = dl_G k j := by decide +kernel
theorem dl_Gg : ∀ j, j < 5 → dl_G 4 j = dl_g j := by decide +kernel
theorem dl_gl : ∀ j, j < 5 → dl_g j < 8 := by decide +kernel
section
variable {bc rc fc mc : Int32} {a1 a2 a3 : Nat → Int32} {a4 : Nat → Int64} {a5 a6 a7 a8 a9 a10 a11 : Nat → Int32}
theorem dl_bg16 {post : St2 → Prop} {J : Int32 → (Nat → Int32) → (Nat → Int32) → (Nat → Int32) → (Nat → Int64) → (Nat → Int32) → (Nat → Int32) → (Nat → Int32) → (Nat → Int32) → (Nat → Int32) → (Nat → Int32) → (Nat → Int32) → Prop} (T : dl_T a1 a2) (k : Nat) (hk : k < 4)
    (h : ∀ j, j < 5 → a3 j = nI (dl_G k j)) (H : ∀ b, (∀ j, j < 5 → b j = nI (dl_G (k + 1) j)) → J (nI (k + 2)) a1 a2 b a4 a5 a6 a7 a8 a9 a10 a11) :
    ∃ n, wX_buildGenerator_16 post J (nI (k + 1)) bc rc fc mc n (nI (k + 1)) a1 a2 a3 a4 a5 a6 a7 a8 a9 a10 a11 := by
  have hpk : a1 (nI (k + 1)).toNatClampNeg = nI (dl_pw (k + 1)) := by rw [nI_clamp (by omega), T.1 _ (by omega)]
  refine ⟨_, pk_loopD (fun n i s => wX_buildGenerator_16 post J (nI (k + 1)) bc rc fc mc n (nI i) a1 a2 s a4 a5 a6 a7 a8 a9 a10 a11) (fun i s => i ≤ k + 1 ∧ ∀ j, j < 5 → s j = nI (if i < j then dl_G (k + 1) j else dl_G k j)) ?_ ?_ (k + 1) a3 ⟨Nat.le_refl _, fun j hj => ?_⟩⟩
  · intro n s hI
    obtain ⟨_, hI⟩ := hI
    refine pk_le 0 0 (fun _ => ⟨pk_in (k + 1) 14 (by omega), dl_prod T (dl_G k 0) (dl_pw (k + 1)) (dl_Gl k (by omega) 0 (by decide)) (dl_pwl _) (nm_e (nm_r (nI_1 (k + 1)) (H _ ?_))) (hI 0 (by decide)) hpk⟩) (fun z => absurd z (by omega))
    refine dl_upd rfl hI ?_ (fun j hj hn => ?_)
    · rw [dl_by _ (dl_mull _ _)]
      rfl
    · rw [if_pos (by omega)]
  · intro n i s hI hw
    obtain ⟨hi, hI⟩ := hI
    refine pk_le (i + 1) 0 (fun z => absurd z (by omega)) (fun _ => ⟨pk_in (i + 1) 5 (by omega), pk_in (k + 1) 14 (by omega), dl_prod T (dl_G k (i + 1)) (dl_pw (k + 1)) (dl_Gl k (by omega) _ (by omega)) (dl_pwl _) ⟨pk_in i 5 (by omega) (nI_pred i), pk_in (i + 1) 5 (by omega), nm_e (nm_r (pk_m1 i) (hw _ ⟨by omega, ?_⟩))⟩ ?_ hpk⟩)
    · refine dl_upd (nI_clamp (by omega)) hI ?_ (fun j hj hn => ?_)
      · rw [pk_cl i (nI_pred i), hI i (by omega), if_neg (by omega), nx_xor, dl_by _ (dl_xl (dl_Gl k (by omega) _ (by omega)) (dl_mull _ _)), if_pos (by omega)]
        rfl
      · by_cases e : i < j
        · rw [if_pos e, if_pos (by omega)]
        · rw [if_neg e, if_neg (by omega)]
    · rw [nI_clamp (by omega), hI (i + 1) (by omega), if_neg (by omega)]
  · rw [h j hj]
    by_cases e : k + 1 < j
    · rw [if_pos e, dl_Gz k hk j hj e]
    · rw [if_neg e]
theorem dl_bg {post : St2 → Prop} (T : dl_T a1 a2) (h : ∀ j, j < 5 → a3 j = 0) (H : ∀ b, (∀ j, j < 5 → b j = nI (dl_g j)) → post (bc, rc, fc, mc, a1, a2, b, a4, a5, a6, a7, a8, a9, a10, a11)) : wpX_buildGenerator post (bc, rc, fc, mc, a1, a2, a3, a4, a5, a6, a7, a8, a9, a10, a11) := by
  unfold wpX_buildGenerator
  dsimp only
  refine nm_e (pk_loop (fun n i s => wX_buildGenerator_9 post bc rc fc mc n (nI (i + 1)) a1 a2 s a4 a5 a6 a7 a8 a9 a10 a11) (fun i s => ∀ j, j < 5 → s j = nI (dl_G i j)) 4 0 _ (by decide) (fun j hj => ?_) (fun n s hI => ?_) (fun n i s hi hI hw => ?_))
  · by_cases e : j = 0
    · rw [e, pk_us]
      rfl
    · rw [pk_un e, h j hj]
      show (0 : Int32) = nI (if j = 0 then 1 else 0)
      rw [if_neg e]
      rfl
  · exact pk_lt 4 5 (fun _ => H s (fun j hj => by rw [hI j hj, dl_Gg j hj])) (fun z => absurd z (by omega))
  · exact pk_lt 4 (i + 1) (fun z => absurd z (by omega)) (fun _ => dl_bg16 T i hi hI hw)
theorem dl_nx : ∀ i, i < 7 → 4 ≤ dl_pw i → (2 * nI (dl_pw i)) ^^^ 11 = nI (dl_pw (i + 1)) := by decide +kernel
theorem dl_nx' : ∀ i, i < 7 → dl_pw i < 4 → 2 * nI (dl_pw i) = nI (dl_pw (i + 1)) := by decide +kernel
theorem dl_pj : ∀ i, i < 7 → ∀ j, j < 7 → dl_pw i = dl_pw j → i = j := by decide +kernel
theorem dl_p7 : ∀ j, j < 7 → dl_pw (j + 7) = dl_pw j := by decide +kernel
theorem dl_pl2 : ∀ j, 0 < j → j < 8 → dl_pw (dl_lg j) = j := by
  intro j h0 h8
  exact (show ∀ j, j < 8 → 0 < j → dl_pw (dl_lg j) = j by decide +kernel) j h8 h0
theorem dl_by7 : ∀ v, v < 7 → (nI v).toInt8.toInt32 = nI v := by decide +kernel
theorem dl_in89 {post : St2 → Prop} {m1 m2 kc ks : Nat} (h3 : ∀ j, j < 5 → a3 j = 0)
    (H : ∀ b1 b2 b3, dl_T b1 b2 → (∀ j, j < 5 → b3 j = nI (dl_g j)) → post (bc, rc, fc, mc, b1, b2, b3, a4, a5, a6, a7, a8, a9, a10, a11)) :
    ∃ n, wX_init_89 post m1 m2 kc ks bc rc fc mc n 1 0 a1 a2 a3 a4 a5 a6 a7 a8 a9 a10 a11 := by
  refine pk_loop (fun n i (s : Int32 × (Nat → Int32) × (Nat → Int32)) => wX_init_89 post m1 m2 kc ks bc rc fc mc n s.1 (nI i) s.2.1 s.2.2 a3 a4 a5 a6 a7 a8 a9 a10 a11) (fun i s => s.1 = nI (dl_pw i) ∧ (∀ j, j < i → s.2.1 j = nI (dl_pw j) ∧ s.2.1 (j + 7) = nI (dl_pw j)) ∧ (∀ j, j < i → s.2.2 (dl_pw j) = nI j)) 7 0 (1, a1, a2) (by decide) ⟨rfl, fun j hj => absurd hj (by omega), fun j hj => absurd hj (by omega)⟩ (fun n s hI => ?_) (fun n i s hi hI hw => ?_)
  · obtain ⟨_, h1, h2⟩ := hI
    refine pk_le 7 7 (fun _ => dl_bg ⟨fun j hj => ?_, fun j h0 hj => ?_⟩ h3 (fun b hb => H _ _ _ ⟨fun j hj => ?_, fun j h0 hj => ?_⟩ hb)) (fun z => absurd z (by omega))
    · by_cases e : j < 7
      · exact (h1 j e).1
      · obtain ⟨t, rfl⟩ : ∃ t, j = t + 7 := ⟨j - 7, by omega⟩
        rw [(h1 t (by omega)).2, dl_p7 t (by omega)]
    · have t := h2 (dl_lg j) (dl_lgl j hj)
      rw [dl_pl2 j h0 hj] at t
      exact t
    · by_cases e : j < 7
      · exact (h1 j e).1
      · obtain ⟨t, rfl⟩ : ∃ t, j = t + 7 := ⟨j - 7, by omega⟩
        rw [(h1 t (by omega)).2, dl_p7 t (by omega)]
    · have t := h2 (dl_lg j) (dl_lgl j hj)
      rw [dl_pl2 j h0 hj] at t
      exact t
  · obtain ⟨x, b1, b2⟩ := s
    obtain ⟨hx, h1, h2⟩ := hI
    dsimp only at hx h1 h2
    subst hx
    have hp := dl_pwl i
    have F1 : ∀ j, j < i + 1 → upd (upd b1 (nI i).toNatClampNeg (nI (dl_pw i)).toInt8.toInt32) (nI i + 7).toNatClampNeg (nI (dl_pw i)).toInt8.toInt32 j = nI (dl_pw j) ∧ upd (upd b1 (nI i).toNatClampNeg (nI (dl_pw i)).toInt8.toInt32) (nI i + 7).toNatClampNeg (nI (dl_pw i)).toInt8.toInt32 (j + 7) = nI (dl_pw j) := by
      intro j hj
      rw [show (nI i + 7).toNatClampNeg = i + 7 from pk_cl (i + 7) (nI_add i 7), nI_clamp (by omega), dl_by _ hp]
      by_cases e : j = i
      · subst e
        rw [pk_us, pk_un (by omega), pk_us]
        exact ⟨rfl, rfl⟩
      · rw [pk_un (by omega), pk_un e, pk_un (by omega), pk_un (by omega)]
        exact h1 j (by omega)
    have F2 : ∀ j, j < i + 1 → upd b2 (nI (dl_pw i)).toNatClampNeg (nI i).toInt8.toInt32 (dl_pw j) = nI j := by
      intro j hj
      rw [nI_clamp (by omega), dl_by7 _ hi]
      by_cases e : j = i
      · rw [e, pk_us]
      · rw [pk_un (fun z => e (dl_pj j (by omega) i hi z))]
        exact h2 j (by omega)
    refine pk_le 7 i (fun z => absurd z (by omega)) (fun _ => ⟨pk_in i 14 (by omega), nm_e ⟨pk_in (i + 7) 14 (by omega) (nI_add i 7), nm_e ⟨pk_in (dl_pw i) 8 hp, nm_e (pk_le 4 (dl_pw i) (fun z => nm_r (dl_nx i hi z) (nm_r (nI_1 i) (hw (_, _, _) ⟨rfl, F1, F2⟩))) (fun z => nm_r (dl_nx' i hi z) (nm_r (nI_1 i) (hw (_, _, _) ⟨rfl, F1, F2⟩))))⟩⟩⟩)
theorem dl_init {post : St2 → Prop} {m1 m2 : Nat} (hm : 11 ≤ m1) (hs : 68 ≤ m2)
    (H : ∀ b1 b2 b3, dl_T b1 b2 → (∀ j, j < 5 → b3 j = nI (dl_g j)) → post (bc, rc, fc, mc, b1, b2, b3, (fun _ => 0), (fun _ => 0), (fun _ => 0), (fun _ => 0), (fun _ => 0), (fun _ => 0), (fun _ => 0), (fun _ => 0))) :
    wpX_init post m1 m2 (bc, rc, fc, mc) :=
  ⟨by omega, by omega, by omega, by omega, by omega, by omega, by omega, by omega, by omega, by omega, by omega, by omega, by omega, by omega, by omega, by omega, by omega, by omega, by omega, by omega, by omega, by omega, dl_in89 (fun _ _ => rfl) H⟩
end
end
section
/-! coding: a word out of a message -/
/-- the symbol m of the word h of a message -/
def dl_ms (msg h m : Nat) : Nat := msg / 2 ^ (3 * (5 - 2 * m - h)) % 8
theorem dl_msl (msg h m : Nat) : dl_ms msg h m < 8 := Nat.mod_lt _ (by decide)
theorem dl_sc : ∀ m, m < 3 → ∀ h, h < 2 → (((3 * ((5 - (2 * nI m)) - nI h)) &&& 31 : Int32).toBitVec.smod 32).toNat = 3 * (5 - 2 * m - h) := by decide +kernel
theorem dl_msI {msg h m : Nat} (hm : m < 3) (hh : h < 2) (hs : msg < 262144) : ((nI msg) >>> ((3 * ((5 - (2 * nI m)) - nI h)) &&& 31)) &&& 7 = nI (dl_ms msg h m) := by
  rw [pk_shrN (by omega) _ _ (dl_sc m hm h hh), pk_andN (n := msg / 2 ^ (3 * (5 - 2 * m - h))) (Nat.lt_of_le_of_lt (Nat.div_le_self _ _) (by omega)) 3 (by decide)]
  rfl
theorem dl_rsl {r : Nat → Nat} {s : Nat} (hr : ∀ j, j < 4 → r j < 8) : ∀ j, j < 4 → dl_rs r s j < 8 := by
  intro j hj
  unfold dl_rs
  split
  · exact dl_mull _ _
  · exact dl_xl (hr _ (by omega)) (dl_mull _ _)
theorem dl_zl : ∀ j, j < 4 → dl_z j < 8 := by decide +kernel
section
variable {bc rc fc mc : Int32} {a1 a2 a3 : Nat → Int32} {a4 : Nat → Int64} {a5 a6 a7 a8 a9 a10 a11 : Nat → Int32}
theorem dl_c67 {post : St2 → Prop} {J : Int32 → (Nat → Int32) → (Nat → Int32) → (Nat → Int32) → (Nat → Int64) → (Nat → Int32) → (Nat → Int32) → (Nat → Int32) → (Nat → Int32) → (Nat → Int32) → (Nat → Int32) → (Nat → Int32) → Prop} {x1 x2 x3 x5 : Int32} (T : dl_T a1 a2) (hg : ∀ j, j < 5 → a3 j = nI (dl_g j))
    (r : Nat → Nat) (s : Nat) (hr : ∀ j, j < 4 → r j < 8) (hs : s < 8) (h : ∀ j, j < 4 → a6 j = nI (r j)) (hx : x5 = nI (s ^^^ r 3))
    (H : ∀ b, (∀ j, j < 4 → b j = nI (dl_rs r s j)) → (∀ j, 4 ≤ j → b j = a6 j) → J (x3 + (-1)) a1 a2 a3 a4 a5 b a7 a8 a9 a10 a11) :
    ∃ n, wX_code_67 post J x1 x2 x3 x5 bc rc fc mc n 3 a1 a2 a3 a4 a5 a6 a7 a8 a9 a10 a11 := by
  subst hx
  have hb : s ^^^ r 3 < 8 := dl_xl hs (hr 3 (by decide))
  refine ⟨_, pk_loopD (fun n i v => wX_code_67 post J x1 x2 x3 (nI (s ^^^ r 3)) bc rc fc mc n (nI i) a1 a2 a3 a4 a5 v a7 a8 a9 a10 a11) (fun i v => i ≤ 3 ∧ (∀ j, j < 4 → v j = nI (if i < j then dl_rs r s j else r j)) ∧ ∀ j, 4 ≤ j → v j = a6 j) ?_ ?_ 3 a6 ⟨Nat.le_refl _, fun j hj => ?_, fun j _ => rfl⟩⟩
  · intro n v hI
    obtain ⟨_, hI, hU⟩ := hI
    refine pk_le 0 0 (fun _ => dl_prod T (s ^^^ r 3) (dl_g 0) hb (dl_gl 0 (by decide)) (nm_e (nm_e (H _ ?_ (fun j hj => ?_)))) rfl (hg 0 (by decide))) (fun z => absurd z (by omega))
    · refine dl_upd rfl hI ?_ (fun j hj hn => ?_)
      · rw [dl_by _ (dl_mull _ _)]
        rfl
      · rw [if_pos (by omega)]
    · rw [pk_un (by omega), hU j hj]
  · intro n i v hI hw
    obtain ⟨hi, hI, hU⟩ := hI
    refine pk_le (i + 1) 0 (fun z => absurd z (by omega)) (fun _ => ⟨pk_in (i + 1) 5 (by omega), dl_prod T (s ^^^ r 3) (dl_g (i + 1)) hb (dl_gl _ (by omega)) ⟨pk_in i 7 (by omega) (nI_pred i), pk_in (i + 1) 7 (by omega), nm_e (nm_r (pk_m1 i) (hw _ ⟨by omega, ?_, fun j hj => ?_⟩))⟩ rfl ?_⟩)
    · refine dl_upd (nI_clamp (by omega)) hI ?_ (fun j hj hn => ?_)
      · rw [pk_cl i (nI_pred i), hI i (by omega), if_neg (by omega), nx_xor, dl_by _ (dl_xl (hr _ (by omega)) (dl_mull _ _)), if_pos (by omega)]
        rfl
      · by_cases e : i < j
        · rw [if_pos e, if_pos (by omega)]
        · rw [if_neg e, if_neg (by omega)]
    · rw [nI_clamp (by omega), pk_un (by omega), hU j hj]
    · rw [nI_clamp (by omega), hg (i + 1) (by omega)]
  · rw [h j hj, if_neg (by omega)]
theorem dl_c22 {post : St2 → Prop} {n : Nat} {y : Int32} (T : dl_T a1 a2) (hg : ∀ j, j < 5 → a3 j = nI (dl_g j)) {msg h m : Nat} (hm : m < 3) (hh : h < 2) (hs : msg < 262144)
    (r : Nat → Nat) (hr : ∀ j, j < 4 → r j < 8) (hR : ∀ j, j < 4 → a6 j = nI (r j)) (hy : y = nI m)
    (H : ∀ b, (∀ j, j < 4 → b j = nI (dl_rs r (dl_ms msg h m) j)) → b (4 + m) = nI (dl_ms msg h m) → (∀ j, 4 ≤ j → j ≠ 4 + m → b j = a6 j) → wX_code_22 post (nI msg) (nI h) bc rc fc mc n (nI m + (-1)) a1 a2 a3 a4 a5 b a7 a8 a9 a10 a11) :
    wX_code_22 post (nI msg) (nI h) bc rc fc mc (n + 1) y a1 a2 a3 a4 a5 a6 a7 a8 a9 a10 a11 := by
  subst hy
  have hl := dl_msl msg h m
  refine pk_lt m 0 (fun z => absurd z (by omega)) (fun _ => nm_r (dl_msI hm hh hs) ⟨pk_in (4 + m) 7 (by omega) (nI_add 4 m), nm_r (congrArg (fun t => upd a6 t _) (pk_cl (4 + m) (nI_add 4 m))) (nm_e ?_)⟩)
  rw [dl_by _ hl]
  refine dl_c67 T hg r (dl_ms msg h m) hr hl (fun j hj => ?_) ?_ (fun b hb hu => H b hb ?_ (fun j hj hn => ?_))
  · rw [pk_un (by omega), hR j hj]
  · rw [pk_un (by omega), hR 3 (by decide), nx_xor]
  · rw [hu _ (by omega), pk_us]
  · rw [hu _ hj, pk_un hn]
theorem dl_code {post : St2 → Prop} {x y : Int32} (T : dl_T a1 a2) (hg : ∀ j, j < 5 → a3 j = nI (dl_g j)) (msg h : Nat) (hh : h < 2) (hs : msg < 262144)
    (H : ∀ b, (∀ j, j < 7 → b j = nI (dl_cw (dl_ms msg h 0) (dl_ms msg h 1) (dl_ms msg h 2) j)) → post (bc, rc, fc, mc, a1, a2, a3, a4, a5, b, a7, a8, a9, a10, a11)) (hx : x = nI msg := by rfl) (hy : y = nI h := by rfl) :
    wpX_code post (bc, rc, fc, mc, a1, a2, a3, a4, a5, a6, a7, a8, a9, a10, a11) x y := by
  subst hx hy
  refine pk_loop (fun n i v => wX_code_2 post (nI msg) (nI h) bc rc fc mc n (nI i) a1 a2 a3 a4 a5 v a7 a8 a9 a10 a11) (fun i v => ∀ j, j < i → v j = 0) 4 0 a6 (by decide) (fun j hj => absurd hj (by omega)) (fun n v hI => ?_) (fun n i v hi hI hw => ?_)
  · refine pk_le 4 4 (fun _ => ⟨3 + 1, ?_⟩) (fun z => absurd z (by omega))
    refine dl_c22 (m := 2) T hg (by decide) hh hs dl_z dl_zl (fun j hj => hI j hj) rfl (fun b2 L2 M2 U2 => ?_)
    refine dl_c22 (m := 1) T hg (by decide) hh hs _ (dl_rsl dl_zl) L2 rfl (fun b1 L1 M1 U1 => ?_)
    refine dl_c22 (m := 0) T hg (by decide) hh hs _ (dl_rsl (dl_rsl dl_zl)) L1 rfl (fun b0 L0 M0 U0 => ?_)
    refine br_t (by decide) (H b0 (fun j hj => ?_))
    unfold dl_cw
    by_cases e : j < 4
    · rw [if_pos e]
      exact L0 j e
    · rw [if_neg e]
      by_cases e4 : j = 4
      · rw [if_pos e4, e4]
        exact M0
      · rw [if_neg e4]
        by_cases e5 : j = 5
        · rw [if_pos e5, e5, U0 5 (by decide) (by decide)]
          exact M1
        · have e6 : j = 6 := by omega
          rw [if_neg e5, e6, U0 6 (by decide) (by decide), U1 6 (by decide) (by decide)]
          exact M2
  · refine pk_le 4 i (fun z => absurd z (by omega)) (fun _ => ⟨pk_in i 7 (by omega), nm_e (nm_r (nI_1 i) (hw _ (fun j hj => ?_)))⟩)
    rw [nI_clamp (by omega)]
    by_cases e : j = i
    · rw [e, pk_us]
    · rw [pk_un e]
      exact hI j (by omega)
end
end
section
/-! sending: the marker's eight bits, then the symbols' -/
def dl_tb (m k : Nat) : Nat := (m.testBit k).toNat
theorem dl_tbl (m k : Nat) : dl_tb m k < 2 := by
  unfold dl_tb
  cases m.testBit k <;> decide
theorem dl_tb8 : ∀ t, t < 8 → ∀ i, i < 3 → (nI t >>> ((2 - nI i) &&& 31)) &&& 1 = nI (dl_tb t (2 - i)) := by decide +kernel
theorem dl_tbm : ∀ i, i < 8 → ((178 : Int32) >>> ((7 - nI i) &&& 31)) &&& 1 = nI (dl_tb 178 (7 - i)) := by decide +kernel
theorem dl_pos {x1 x2 x5 : Int32} (j i : Nat) (h1 : x1 = nI 0) (h2 : x2 = nI j) (h5 : x5 = nI i) : ((x1 + 8) + (3 * x2)) + x5 = nI (8 + 3 * j + i) := by
  subst h1 h2 h5
  show ((nI 0 + nI 8) + (nI 3 * nI j)) + nI i = _
  rw [nI_add, pk_mul, nI_add, nI_add, Nat.zero_add]
/-- what the line's first word holds: the marker m, the symbols T as sent -/
def dl_F (w : Int64) (m : Nat) (T : Nat → Nat) : Prop := (∀ p, p < 8 → dl_bit w p = dl_tb m (7 - p)) ∧ (∀ j, j < 14 → ∀ k, k < 3 → dl_bit w (8 + 3 * j + k) = dl_tb (T j) (2 - k))
/-- the symbol j of a message's frame, as sent -/
def dl_cm (msg j : Nat) : Nat := dl_cw (dl_ms msg (j % 2) 0) (dl_ms msg (j % 2) 1) (dl_ms msg (j % 2) 2) (j / 2)
def dl_ts (msg : Nat) : Nat → Nat := fun j => dl_cm msg j ^^^ dl_scr j
theorem dl_cml (msg : Nat) {j : Nat} (hj : j < 14) : dl_cm msg j < 8 := dl_cwl _ (dl_msl _ _ _) _ (dl_msl _ _ _) _ (dl_msl _ _ _) _ (by omega)
theorem dl_tsl (msg : Nat) {j : Nat} (hj : j < 14) : dl_ts msg j < 8 := dl_xl (dl_cml msg hj) (dl_scrl j)
section
variable {bc rc fc mc : Int32} {a1 a2 a3 : Nat → Int32} {a4 : Nat → Int64} {a5 a6 a7 a8 a9 a10 a11 : Nat → Int32}
theorem dl_put {post : St2 → Prop} {x y z : Int32} (j s : Nat) (hj : j < 14) (hs : s < 8)
    (H : ∀ a : Nat → Int64, (∀ p, p < 8 → dl_bit (a 0) p = dl_bit (a4 0) p) → (∀ q, q < 14 → ∀ k, k < 3 → dl_bit (a 0) (8 + 3 * q + k) = if q = j then dl_tb (s ^^^ dl_scr j) (2 - k) else dl_bit (a4 0) (8 + 3 * q + k)) → post (bc, rc, fc, mc, a1, a2, a3, a, a5, a6, a7, a8, a9, a10, a11))
    (hx : x = nI 0 := by rfl) (hy : y = nI j := by rfl) (hz : z = nI s := by rfl) : wpX_putSymbol post (bc, rc, fc, mc, a1, a2, a3, a4, a5, a6, a7, a8, a9, a10, a11) x y z := by
  subst hy hz
  have ht : s ^^^ dl_scr j < 8 := dl_xl hs (dl_scrl j)
  unfold wpX_putSymbol
  dsimp only
  refine dl_scram j hj (nm_r (nx_xor _ _) (pk_loop (fun n i v => wX_putSymbol_12 post x (nI j) (nI (s ^^^ dl_scr j)) n (nI i) bc rc fc mc a1 a2 a3 v a5 a6 a7 a8 a9 a10 a11) (fun i v => (∀ p, p < 8 → dl_bit (v 0) p = dl_bit (a4 0) p) ∧ (∀ q, q < 14 → ∀ k, k < 3 → dl_bit (v 0) (8 + 3 * q + k) = if q = j ∧ k < i then dl_tb (s ^^^ dl_scr j) (2 - k) else dl_bit (a4 0) (8 + 3 * q + k))) 3 0 a4 (by decide) ⟨fun p hp => rfl, fun q hq k hk => ?_⟩ (fun n v hI => ?_) (fun n i v hi hI hw => ?_)))
  · rw [if_neg (by omega)]
  · refine pk_le 3 3 (fun _ => H v hI.1 (fun q hq k hk => ?_)) (fun z => absurd z (by omega))
    rw [hI.2 q hq k hk]
    by_cases e : q = j
    · rw [if_pos e, if_pos ⟨e, hk⟩]
    · rw [if_neg e, if_neg (fun t => e t.1)]
  · obtain ⟨h1, h2⟩ := hI
    refine pk_le 3 i (fun z => absurd z (by omega)) (fun _ => dl_set (8 + 3 * j + i) (dl_tb (s ^^^ dl_scr j) (2 - i)) (by omega) (dl_tbl _ _) (fun v' hv => nm_r (nI_1 i) (hw v' ⟨fun p hp => ?_, fun q hq k hk => ?_⟩)) (dl_pos j i hx rfl rfl) (dl_tb8 _ ht i hi))
    · rw [hv p (by omega), if_neg (by omega), h1 p hp]
    · rw [hv _ (by omega), h2 q hq k hk]
      by_cases e : q = j
      · subst e
        by_cases ek : k = i
        · subst ek
          rw [if_pos rfl, if_pos ⟨rfl, by omega⟩]
        · rw [if_neg (by omega)]
          by_cases el : k < i
          · rw [if_pos ⟨rfl, el⟩, if_pos ⟨rfl, by omega⟩]
          · rw [if_neg (by omega), if_neg (by omega)]
      · rw [if_neg (by omega), if_neg (by omega), if_neg (by omega)]
theorem dl_s91 {post : Int32 → St2 → Prop} {J : Int32 → Int32 → Int32 → Int32 → Int32 → (Nat → Int32) → (Nat → Int32) → (Nat → Int32) → (Nat → Int64) → (Nat → Int32) → (Nat → Int32) → (Nat → Int32) → (Nat → Int32) → (Nat → Int32) → (Nat → Int32) → (Nat → Int32) → Prop} {x1 x2 : Int32} (h : Nat) (hh : h < 2) (c : Nat → Nat) (hc : ∀ j, j < 7 → c j < 8) (h6 : ∀ j, j < 7 → a6 j = nI (c j)) (hx : x2 = nI 0)
    (H : ∀ a : Nat → Int64, (∀ p, p < 8 → dl_bit (a 0) p = dl_bit (a4 0) p) → (∀ q, q < 14 → ∀ k, k < 3 → dl_bit (a 0) (8 + 3 * q + k) = if q % 2 = h then dl_tb (c (q / 2) ^^^ dl_scr q) (2 - k) else dl_bit (a4 0) (8 + 3 * q + k)) → J (nI (h + 1)) bc rc fc mc a1 a2 a3 a a5 a6 a7 a8 a9 a10 a11) :
    ∃ n, wX_send_91 post J x1 x2 (nI h) n 0 bc rc fc mc a1 a2 a3 a4 a5 a6 a7 a8 a9 a10 a11 := by
  refine pk_loop (fun n i v => wX_send_91 post J x1 x2 (nI h) n (nI i) bc rc fc mc a1 a2 a3 v a5 a6 a7 a8 a9 a10 a11) (fun i v => (∀ p, p < 8 → dl_bit (v 0) p = dl_bit (a4 0) p) ∧ (∀ q, q < 14 → ∀ k, k < 3 → dl_bit (v 0) (8 + 3 * q + k) = if q % 2 = h ∧ q / 2 < i then dl_tb (c (q / 2) ^^^ dl_scr q) (2 - k) else dl_bit (a4 0) (8 + 3 * q + k))) 7 0 a4 (by decide) ⟨fun p hp => rfl, fun q hq k hk => ?_⟩ (fun n v hI => ?_) (fun n i v hi hI hw => ?_)
  · rw [if_neg (by omega)]
  · refine pk_le 7 7 (fun _ => nm_r (nI_1 h) (H v hI.1 (fun q hq k hk => ?_))) (fun z => absurd z (by omega))
    rw [hI.2 q hq k hk]
    by_cases e : q % 2 = h
    · rw [if_pos e, if_pos ⟨e, by omega⟩]
    · rw [if_neg e, if_neg (fun t => e t.1)]
  · obtain ⟨h1, h2⟩ := hI
    refine pk_le 7 i (fun z => absurd z (by omega)) (fun _ => ⟨pk_in i 7 hi, dl_put (2 * i + h) (c i) (by omega) (hc i hi) (fun v' hv1 hv2 => nm_r (nI_1 i) (hw v' ⟨fun p hp => ?_, fun q hq k hk => ?_⟩)) hx ?_ ?_⟩)
    · rw [hv1 p hp, h1 p hp]
    · rw [hv2 q hq k hk, h2 q hq k hk]
      by_cases e : q = 2 * i + h
      · rw [if_pos e, if_pos (by omega), show q / 2 = i by omega, e]
      · rw [if_neg e]
        by_cases el : q % 2 = h ∧ q / 2 < i
        · rw [if_pos el, if_pos (by omega)]
        · rw [if_neg el, if_neg (by omega)]
    · show nI 2 * nI i + nI h = nI (2 * i + h)
      rw [pk_mul, nI_add]
    · rw [nI_clamp (by omega), h6 i hi]
theorem dl_s77 {post : Int32 → St2 → Prop} {x2 : Int32} (T : dl_T a1 a2) (hg : ∀ j, j < 5 → a3 j = nI (dl_g j)) (msg : Nat) (hs : msg < 262144) (hm : ∀ p, p < 8 → dl_bit (a4 0) p = dl_tb 178 (7 - p)) (hx : x2 = nI 0)
    (H : ∀ (a : Nat → Int64) b, dl_F (a 0) 178 (dl_ts msg) → post bc (bc, 0, fc, mc, a1, a2, a3, a, a5, b, a7, a8, a9, a10, a11)) :
    ∃ n, wX_send_77 post (nI msg) x2 n 0 bc rc fc mc a1 a2 a3 a4 a5 a6 a7 a8 a9 a10 a11 := by
  refine pk_loop (fun n i (s : (Nat → Int64) × (Nat → Int32)) => wX_send_77 post (nI msg) x2 n (nI i) bc rc fc mc a1 a2 a3 s.1 a5 s.2 a7 a8 a9 a10 a11) (fun i s => (∀ p, p < 8 → dl_bit (s.1 0) p = dl_tb 178 (7 - p)) ∧ (∀ q, q < 14 → ∀ k, k < 3 → q % 2 < i → dl_bit (s.1 0) (8 + 3 * q + k) = dl_tb (dl_ts msg q) (2 - k))) 2 0 (a4, a6) (by decide) ⟨hm, fun q hq k hk hz => absurd hz (by omega)⟩ (fun n s hI => ?_) (fun n i s hi hI hw => ?_)
  · exact pk_le 2 2 (fun _ => H s.1 s.2 ⟨hI.1, fun q hq k hk => hI.2 q hq k hk (Nat.mod_lt _ (by decide))⟩) (fun z => absurd z (by omega))
  · obtain ⟨v, b⟩ := s
    obtain ⟨h1, h2⟩ := hI
    dsimp only at h1 h2
    refine pk_le 2 i (fun z => absurd z (by omega)) (fun _ => dl_code T hg msg i hi hs (fun b' hb => dl_s91 i hi _ (dl_cwl _ (dl_msl _ _ _) _ (dl_msl _ _ _) _ (dl_msl _ _ _)) hb hx (fun v' hv1 hv2 => hw (v', b') ⟨fun p hp => ?_, fun q hq k hk hz => ?_⟩)))
    · exact (hv1 p hp).trans (h1 p hp)
    · show dl_bit (v' 0) _ = _
      rw [hv2 q hq k hk]
      by_cases e : q % 2 = i
      · rw [if_pos e]
        subst e
        rfl
      · rw [if_neg e]
        exact h2 q hq k hk (by omega)
theorem dl_send {post : Int32 → St2 → Prop} (T : dl_T a1 a2) (hg : ∀ j, j < 5 → a3 j = nI (dl_g j)) (msg : Nat) (hs : msg < 262144)
    (H : ∀ (a : Nat → Int64) b, dl_F (a 0) 178 (dl_ts msg) → post (nI 50) (nI 50, 0, fc, mc, a1, a2, a3, a, a5, b, a7, a8, a9, a10, a11)) :
    wpX_send post (0, rc, fc, mc, a1, a2, a3, a4, a5, a6, a7, a8, a9, a10, a11) (nI msg) := by
  refine pk_lt msg 0 (fun z => absurd z (by omega)) (fun _ => pk_le msg 262143 (fun _ => pk_le 50 300 (fun _ => nm_r (e' := nI 50) (by decide) ?_) (fun z => absurd z (by omega)) (by decide)) (fun z => absurd z (by omega)))
  refine pk_loop (fun n i v => wX_send_46 post (nI msg) 0 n (nI i) (nI 50) rc fc mc a1 a2 a3 v a5 a6 a7 a8 a9 a10 a11) (fun i v => ∀ p, p < i → dl_bit (v 0) p = dl_tb 178 (7 - p)) 8 0 a4 (by decide) (fun p hp => absurd hp (by omega)) (fun n v hI => ?_) (fun n i v hi hI hw => ?_)
  · exact pk_le 8 8 (fun _ => dl_s77 T hg msg hs hI rfl H) (fun z => absurd z (by omega))
  · refine pk_le 8 i (fun z => absurd z (by omega)) (fun _ => dl_set i (dl_tb 178 (7 - i)) (by omega) (dl_tbl _ _) (fun v' hv => nm_r (nI_1 i) (hw v' (fun p hp => ?_))) ?_ (dl_tbm i hi))
    · rw [hv p (by omega)]
      by_cases e : p = i
      · rw [if_pos e, e]
      · rw [if_neg e]
        exact hI p (by omega)
    · show nI 0 + nI i = nI i
      rw [nI_add, Nat.zero_add]
end
end
section
/-! a bit of the line is turned; the frame is found -/
theorem dl_tbx (m k q : Nat) : dl_tb (m ^^^ 2 ^ k) q = if q = k then 1 - dl_tb m q else dl_tb m q := by
  unfold dl_tb
  rw [Nat.testBit_xor, Nat.testBit_two_pow]
  by_cases e : q = k
  · subst e
    rw [if_pos rfl]
    cases m.testBit q <;> simp
  · rw [if_neg e]
    simp [show ¬ k = q by omega]
/-- the marker if bit f is turned -/
def dl_fm (m f : Nat) : Nat := if f < 8 then m ^^^ 2 ^ (7 - f) else m
theorem dl_win : ∀ m, m < 256 → ∀ i, i < 8 → (((nI (m / 2 ^ (8 - i))) <<< ((1 : Int32) &&& 31)) &&& 255) ||| nI (dl_tb m (7 - i)) = nI (m / 2 ^ (8 - (i + 1))) := by decide +kernel
theorem dl_fml : ∀ f, f < 50 → dl_fm 178 f < 256 := by decide +kernel
theorem dl_see : ∀ f, f < 50 → (nI (dl_fm 178 f) ^^^ 178) &&& ((nI (dl_fm 178 f) ^^^ 178) - 1) = 0 := by decide +kernel
section
variable {bc rc fc mc : Int32} {a1 a2 a3 : Nat → Int32} {a4 : Nat → Int64} {a5 a6 a7 a8 a9 a10 a11 : Nat → Int32}
theorem dl_isbit {post : Int32 → Prop} {f : Nat} (hf : f < 50) (H : post 1) : wpX_isBit post (nI 50, rc, fc, mc, a1, a2, a3, a4, a5, a6, a7, a8, a9, a10, a11) (nI f) :=
  pk_lt f 0 (fun z => absurd z (by omega)) (fun _ => pk_le 50 f (fun z => absurd z (by omega)) (fun _ => H))
theorem dl_flip {post : Int32 → St2 → Prop} {m f : Nat} {S : Nat → Nat} (hf : f < 50) (F : dl_F (a4 0) m S)
    (H : ∀ (r : Nat) (a : Nat → Int64), r < 2 → dl_F (a 0) (dl_fm m f) (fun j => S j ^^^ dl_E f j) → post (nI r) (nI 50, 0, fc, mc, a1, a2, a3, a, a5, a6, a7, a8, a9, a10, a11)) :
    wpX_flip post (nI 50, rc, fc, mc, a1, a2, a3, a4, a5, a6, a7, a8, a9, a10, a11) (nI f) := by
  have hb := dl_bitl (a4 0) f
  unfold wpX_flip
  dsimp only
  refine dl_isbit hf (br_f (by decide) (dl_get f (by omega) (nm_r (e' := nI (1 - dl_bit (a4 0) f)) (show nI 1 - nI (dl_bit (a4 0) f) = _ from pk_sub (by omega)) (dl_set f (1 - dl_bit (a4 0) f) (by omega) (by omega) (fun a ha => H _ a (by omega) ⟨fun p hp => ?_, fun j hj k hk => ?_⟩)))))
  · rw [ha p (by omega)]
    unfold dl_fm
    by_cases e8 : f < 8
    · rw [if_pos e8, dl_tbx]
      by_cases e : p = f
      · rw [if_pos e, if_pos (by omega), ← e, F.1 p hp]
      · rw [if_neg e, if_neg (by omega), F.1 p hp]
    · rw [if_neg e8, if_neg (by omega), F.1 p hp]
  · rw [ha _ (by omega)]
    show _ = dl_tb (S j ^^^ dl_E f j) (2 - k)
    unfold dl_E
    by_cases e8 : 8 ≤ f
    · rw [if_pos e8]
      by_cases ej : (f - 8) / 3 = j
      · rw [if_pos ej, dl_tbx]
        by_cases e : 8 + 3 * j + k = f
        · rw [if_pos e, if_pos (by omega), ← e, F.2 j hj k hk]
        · rw [if_neg e, if_neg (by omega), F.2 j hj k hk]
      · rw [if_neg ej, if_neg (by omega), Nat.xor_zero, F.2 j hj k hk]
    · rw [if_neg e8, if_neg (by omega), Nat.xor_zero, F.2 j hj k hk]
theorem dl_sight {post : Int32 → Prop} {x : Int32} (hx : (x ^^^ 178) &&& ((x ^^^ 178) - 1) = 0) (H : post 1) : wpX_isSight post (bc, rc, fc, mc, a1, a2, a3, a4, a5, a6, a7, a8, a9, a10, a11) x :=
  nm_e (br_t hx H)
theorem dl_recv {post : St2 → Prop} {m : Nat} {S : Nat → Nat} (hm : m < 256) (hs : (nI m ^^^ 178) &&& ((nI m ^^^ 178) - 1) = 0) (F : dl_F (a4 0) m S)
    (H : ∀ b : Nat → Int32, b 0 = nI 0 → post (nI 50, 1, nI 1, mc, a1, a2, a3, a4, b, a6, a7, a8, a9, a10, a11)) :
    wpX_receive post (nI 50, 0, fc, mc, a1, a2, a3, a4, a5, a6, a7, a8, a9, a10, a11) := by
  refine br_t rfl (pk_loop (fun n i (s : Int32 × Int32 × Int32 × (Nat → Int32)) => wX_receive_27 post (nI 50) 1 mc n s.1 s.2.1 0 (nI i) s.2.2.1 a1 a2 a3 a4 s.2.2.2 a6 a7 a8 a9 a10 a11) (fun i s => (i < 8 ∧ s.1 = nI (m / 2 ^ (8 - i)) ∧ s.2.1 = -1 ∧ s.2.2.1 = nI 0) ∨ (8 ≤ i ∧ s.2.1 = nI 50 ∧ s.2.2.1 = nI 1 ∧ s.2.2.2 0 = nI 0)) 50 0 (0, -1, 0, a5) (by decide) (Or.inl ⟨by decide, ?_, rfl, rfl⟩) (fun n s hI => ?_) (fun n i s hi hI hw => ?_))
  · show (0 : Int32) = nI (m / 2 ^ 8)
    rw [Nat.div_eq_of_lt hm]
    rfl
  · obtain ⟨x1, x2, c, b⟩ := s
    rcases hI with ⟨z, _⟩ | ⟨_, h1, h2, h3⟩
    · exact absurd z (by decide)
    · dsimp only at h1 h2 h3
      subst h1 h2
      exact pk_le 50 50 (fun _ => H b h3) (fun z => absurd z (by omega))
  · obtain ⟨x1, x2, c, b⟩ := s
    rcases hI with ⟨z, h0, h1, h2⟩ | ⟨z, h1, h2, h3⟩
    · dsimp only at h0 h1 h2
      subst h0 h1 h2
      refine pk_le 50 i (fun z => absurd z (by omega)) (fun _ => dl_get i (by omega) (nm_r (e' := nI (m / 2 ^ (8 - (i + 1)))) (by rw [F.1 i z]; exact dl_win m hm i z) ?_))
      by_cases e : i = 7
      · subst e
        refine nm_r (e' := nI 0) (by decide) (br_f (by decide) (br_t (show (-1 : Int32) < 0 by decide) ?_))
        unfold wX_receive_76
        refine dl_sight (by simpa using hs) (br_f (show ¬ (0 : Int32) ≤ -1 by decide) ?_)
        unfold wX_receive_92
        refine br_t (by decide) ?_
        unfold wX_receive_117
        refine br_f (by decide) ?_
        unfold wX_receive_131
        refine ⟨pk_in 0 6 (by decide), nm_e (nm_r (e' := nI 1) (show nI 0 + 1 = nI 1 by decide) (br_f (by decide) ?_))⟩
        unfold wX_receive_163
        refine nm_r (e' := nI 50) (by decide) (nm_r (e' := nI 8) (by decide) (hw (_, _, _, _) (Or.inr ⟨by decide, rfl, rfl, ?_⟩)))
        rfl
      · refine nm_e (br_t (pk_sneg (a := i) (b := 7) (by decide) (by omega)) (nm_r (nI_1 i) (hw (_, _, _, _) (Or.inl ⟨by omega, rfl, rfl, rfl⟩))))
    · dsimp only at h1 h2 h3
      subst h1 h2
      refine pk_le 50 i (fun z => absurd z (by omega)) (fun _ => dl_get i (by omega) (nm_e (nm_r (e' := nI (i - 7)) (show nI i - nI 7 = _ from pk_sub (by omega)) (pk_lt (i - 7) 0 (fun z => absurd z (by omega)) (fun _ => pk_lt 50 0 (fun z => absurd z (by omega)) (fun _ => pk_le 50 (i - 7) (fun z => absurd z (by omega)) (fun _ => nm_r (nI_1 i) (hw (_, _, _, _) (Or.inr ⟨by omega, rfl, rfl, h3⟩)))))))))
theorem dl_recv0 {post : St2 → Prop} (H : post (0, 1, 0, mc, a1, a2, a3, a4, a5, a6, a7, a8, a9, a10, a11)) : wpX_receive post (0, 0, fc, mc, a1, a2, a3, a4, a5, a6, a7, a8, a9, a10, a11) :=
  br_t rfl ⟨1, br_t (by decide) H⟩
theorem dl_recv1 {post : St2 → Prop} (H : post (bc, 1, fc, mc, a1, a2, a3, a4, a5, a6, a7, a8, a9, a10, a11)) : wpX_receive post (bc, 1, fc, mc, a1, a2, a3, a4, a5, a6, a7, a8, a9, a10, a11) :=
  br_f (by decide) H
end
end
section
/-! reading a symbol; the four sums; the recurrence's fault -/
theorem dl_sym3 : ∀ t, t < 8 → ∀ i, i < 3 → 2 * nI (t / 2 ^ (3 - i)) + nI (dl_tb t (2 - i)) = nI (t / 2 ^ (3 - (i + 1))) := by decide +kernel
theorem dl_d8 : ∀ t, t < 8 → t / 2 ^ 3 = 0 := by decide +kernel
theorem dl_nbool (S : Nat → Nat) (n : Nat) : narrow .boolean (.int (nI (dl_zr S n))) = .int (nI (dl_zr S n)) := by
  rcases dl_zr_01 S n with h | h
  · rw [h]; rfl
  · rw [h]; rfl
section
variable {bc rc fc mc : Int32} {a1 a2 a3 : Nat → Int32} {a4 : Nat → Int64} {a5 a6 a7 a8 a9 a10 a11 : Nat → Int32}
theorem dl_symat {post : Int32 → Prop} {x y : Int32} {m : Nat} {S : Nat → Nat} (j : Nat) (hj : j < 14) (hS : S j < 8) (F : dl_F (a4 0) m S) (H : post (nI (S j ^^^ dl_scr j))) (hx : x = nI 0 := by rfl) (hy : y = nI j := by rfl) :
    wpX_symbolAt post (bc, rc, fc, mc, a1, a2, a3, a4, a5, a6, a7, a8, a9, a10, a11) x y := by
  subst hy
  refine pk_loop (fun n i v => wX_symbolAt_5 post x (nI j) bc rc fc mc a1 a2 a3 a4 a5 a6 a7 a8 a9 a10 a11 n v (nI i)) (fun i v => v = nI (S j / 2 ^ (3 - i))) 3 0 0 (by decide) ?_ (fun n v hI => ?_) (fun n i v hi hI hw => ?_)
  · show (0 : Int32) = nI (S j / 2 ^ 3)
    rw [dl_d8 _ hS]
    rfl
  · subst hI
    refine pk_le 3 3 (fun _ => dl_scram j hj ?_) (fun z => absurd z (by omega))
    rw [nx_xor, show S j / 2 ^ (3 - 3) = S j from Nat.div_one _]
    exact H
  · subst hI
    exact pk_le 3 i (fun z => absurd z (by omega)) (fun _ => dl_get (8 + 3 * j + i) (by omega) (nm_r (by rw [F.2 j hj i hi]; exact dl_sym3 _ hS i hi) (nm_r (nI_1 i) (hw _ rfl))) (dl_pos j i hx rfl rfl))
theorem dl_s15 {post : Int32 → St2 → Prop} {J : Int32 → Int32 → (Nat → Int32) → (Nat → Int32) → (Nat → Int32) → (Nat → Int64) → (Nat → Int32) → (Nat → Int32) → (Nat → Int32) → (Nat → Int32) → (Nat → Int32) → (Nat → Int32) → (Nat → Int32) → Prop} {x1 : Int32} (T : dl_T a1 a2) (k : Nat) (hk : k < 4) (w : Nat → Nat) (hw : ∀ j, j < 7 → w j < 8) (h6 : ∀ j, j < 7 → a6 j = nI (w j))
    (H1 : dl_sy w k = 0 → J x1 (nI (k + 2)) a1 a2 a3 a4 a5 a6 (upd a7 k (nI (dl_sy w k))) a8 a9 a10 a11) (H2 : dl_sy w k ≠ 0 → J 0 (nI (k + 2)) a1 a2 a3 a4 a5 a6 (upd a7 k (nI (dl_sy w k))) a8 a9 a10 a11) :
    ∃ n, wX_sumsAreZero_15 post J x1 (nI (k + 1)) bc rc fc mc a1 a2 a3 a4 a5 a6 a7 a8 a9 a10 a11 n 0 6 := by
  have hpk : a1 (nI (k + 1)).toNatClampNeg = nI (dl_pw (k + 1)) := by rw [nI_clamp (by omega), T.1 _ (by omega)]
  have main := pk_loopD (fun n i v => wX_sumsAreZero_15 post J x1 (nI (k + 1)) bc rc fc mc a1 a2 a3 a4 a5 a6 a7 a8 a9 a10 a11 n v (nI i + (-1))) (fun i v => i ≤ 7 ∧ v = nI (dl_hor w (k + 1) (7 - i))) ?_ ?_ 7 0 ⟨Nat.le_refl 7, rfl⟩
  · have e : nI 7 + (-1) = 6 := by decide
    rw [e] at main
    exact ⟨_, main⟩
  · intro n v hI
    obtain ⟨_, hv⟩ := hI
    subst hv
    have hl : dl_sy w k < 8 := dl_horl hw (k + 1) 7
    refine br_t (by decide) ⟨pk_in k 4 hk (nI_pred k), nm_r (e' := upd a7 k (nI (dl_sy w k))) ?_ (pk_eq (dl_sy w k) 0 (fun z => nm_r (nI_1 (k + 1)) (H1 z)) (fun z => nm_r (nI_1 (k + 1)) (H2 z)))⟩
    rw [pk_cl k (nI_pred k)]
    show upd a7 k (nI (dl_sy w k)).toInt8.toInt32 = _
    rw [dl_by _ hl]
  · intro n i v hI hgo
    obtain ⟨hi, hv⟩ := hI
    subst hv
    show wX_sumsAreZero_15 post J x1 (nI (k + 1)) bc rc fc mc a1 a2 a3 a4 a5 a6 a7 a8 a9 a10 a11 (n + 1) (nI (dl_hor w (k + 1) (7 - (i + 1)))) (nI (i + 1) + (-1))
    rw [pk_m1]
    refine pk_lt i 0 (fun z => absurd z (by omega)) (fun _ => ⟨pk_in (k + 1) 14 (by omega), dl_prod T (dl_hor w (k + 1) (7 - (i + 1))) (dl_pw (k + 1)) (dl_horl hw _ _) (dl_pwl _) ⟨pk_in i 7 (by omega), nm_r (e' := nI (dl_hor w (k + 1) (7 - i))) ?_ (nm_e (hgo _ ⟨by omega, rfl⟩))⟩ rfl hpk⟩)
    rw [nI_clamp (by omega), h6 i (by omega), nx_xor]
    have e : 7 - i = (7 - (i + 1)) + 1 := by omega
    rw [e]
    show _ = nI (dl_mul (dl_hor w (k + 1) (7 - (i + 1))) (dl_pw (k + 1)) ^^^ w (6 - (7 - (i + 1))))
    rw [show 6 - (7 - (i + 1)) = i by omega]
theorem dl_sums {post : Int32 → St2 → Prop} (T : dl_T a1 a2) (w : Nat → Nat) (hw : ∀ j, j < 7 → w j < 8) (h6 : ∀ j, j < 7 → a6 j = nI (w j))
    (H : ∀ b, (∀ j, j < 4 → b j = nI (dl_sy w j)) → post (nI (dl_zr (dl_sy w) 4)) (bc, rc, fc, mc, a1, a2, a3, a4, a5, a6, b, a8, a9, a10, a11)) :
    wpX_sumsAreZero post (bc, rc, fc, mc, a1, a2, a3, a4, a5, a6, a7, a8, a9, a10, a11) := by
  refine pk_loop (fun n k (s : Int32 × (Nat → Int32)) => wX_sumsAreZero_4 post bc rc fc mc n s.1 (nI (k + 1)) a1 a2 a3 a4 a5 a6 s.2 a8 a9 a10 a11) (fun k s => s.1 = nI (dl_zr (dl_sy w) k) ∧ ∀ j, j < k → s.2 j = nI (dl_sy w j)) 4 0 (1, a7) (by decide) ⟨rfl, fun j hj => absurd hj (by omega)⟩ (fun n s hI => ?_) (fun n k s hk hI hgo => ?_)
  · obtain ⟨x, b⟩ := s
    obtain ⟨h1, h2⟩ := hI
    dsimp only at h1 h2
    subst h1
    exact pk_lt 4 5 (fun _ => ⟨dl_nbool _ _, H b h2⟩) (fun z => absurd z (by omega))
  · obtain ⟨x, b⟩ := s
    obtain ⟨h1, h2⟩ := hI
    dsimp only at h1 h2
    subst h1
    have F : ∀ j, j < k + 1 → upd b k (nI (dl_sy w k)) j = nI (dl_sy w j) := by
      intro j hj
      by_cases e : j = k
      · rw [e, pk_us]
      · rw [pk_un e]
        exact h2 j (by omega)
    refine pk_lt 4 (k + 1) (fun z => absurd z (by omega)) (fun _ => dl_s15 T k hk w hw h6 (fun z => hgo (_, _) ⟨?_, F⟩) (fun z => hgo (_, _) ⟨?_, F⟩))
    · show nI _ = nI (if dl_sy w k = 0 then dl_zr (dl_sy w) k else 0)
      rw [if_pos z]
    · show (0 : Int32) = nI (if dl_sy w k = 0 then dl_zr (dl_sy w) k else 0)
      rw [if_neg z]
      rfl
theorem dl_fault {post : Int32 → Prop} {x y : Int32} (T : dl_T a1 a2) (S loc : Nat → Nat) (hS : ∀ j, j < 4 → S j < 8) (hl : ∀ i, i < 5 → loc i < 8) (h7 : ∀ j, j < 4 → a7 j = nI (S j)) (h8 : ∀ i, i < 5 → a8 i = nI (loc i)) (n len : Nat) (hn : n < 4) (hlen : len ≤ n)
    (H : post (nI (dl_flt S loc n len))) (hx : x = nI n := by rfl) (hy : y = nI len := by rfl) : wpX_faultAt post (bc, rc, fc, mc, a1, a2, a3, a4, a5, a6, a7, a8, a9, a10, a11) x y := by
  subst hx hy
  refine ⟨pk_in n 4 hn, nm_r (e' := nI (S n)) (by rw [nI_clamp (by omega), h7 n hn]) (pk_loop (fun k i v => wX_faultAt_10 post (nI n) (nI len) bc rc fc mc a1 a2 a3 a4 a5 a6 a7 a8 a9 a10 a11 k v (nI (i + 1))) (fun i v => v = nI (dl_flt S loc n i)) len 0 _ (by omega) rfl (fun k v hI => ?_) (fun k i v hi hI hw => ?_))⟩
  · subst hI
    exact pk_lt len (len + 1) (fun _ => H) (fun z => absurd z (by omega))
  · subst hI
    refine pk_lt len (i + 1) (fun z => absurd z (by omega)) (fun _ => ⟨pk_in (i + 1) 5 (by omega), pk_in (n - (i + 1)) 4 (by omega) (pk_sub (by omega)), dl_prod T (loc (i + 1)) (S (n - (i + 1))) (hl _ (by omega)) (hS _ (by omega)) (nm_r (nx_xor _ _) (nm_r (nI_1 (i + 1)) (hw _ rfl))) ?_ ?_⟩)
    · rw [nI_clamp (by omega), h8 _ (by omega)]
    · rw [pk_cl (n - (i + 1)) (pk_sub (by omega)), h7 _ (by omega)]
end
end
section
/-! the shortest recurrence -/
theorem dl_fill {s : Nat → Int32} {f : Nat → Nat} {i k : Nat} {x : Int32} (hk : k = i) (h : ∀ j, j < i → s j = nI (f j)) (hx : x = nI (f i)) : ∀ j, j < i + 1 → upd s k x j = nI (f j) := by
  subst hk
  intro j hj
  by_cases e : j = k
  · rw [e, pk_us, hx]
  · rw [pk_un e]
    exact h j (by omega)
section
variable {bc rc fc mc : Int32} {a1 a2 a3 : Nat → Int32} {a4 : Nat → Int64} {a5 a6 a7 a8 a9 a10 a11 : Nat → Int32}
theorem dl_l192 {post : Int32 → St2 → Prop} {J : Int32 → Int32 → Int32 → Int32 → (Nat → Int32) → (Nat → Int32) → (Nat → Int32) → (Nat → Int64) → (Nat → Int32) → (Nat → Int32) → (Nat → Int32) → (Nat → Int32) → (Nat → Int32) → (Nat → Int32) → (Nat → Int32) → Prop} {x1 x4 x5 : Int32} (sh : Nat → Nat) (hs : ∀ j, j < 5 → sh j < 8) (h10 : ∀ j, j < 5 → a10 j = nI (sh j))
    (H : ∀ b, (∀ j, j < 5 → b j = nI (sh j)) → J x1 1 x5 (x4 + 1) a1 a2 a3 a4 a5 a6 a7 a8 b a10 a11) : ∃ n, wX_findLocator_192 post J x1 x4 x5 bc rc fc mc n 0 a1 a2 a3 a4 a5 a6 a7 a8 a9 a10 a11 := by
  refine pk_loop (fun n i v => wX_findLocator_192 post J x1 x4 x5 bc rc fc mc n (nI i) a1 a2 a3 a4 a5 a6 a7 a8 v a10 a11) (fun i v => ∀ j, j < i → v j = nI (sh j)) 5 0 a9 (by decide) (fun j hj => absurd hj (by omega)) (fun n v hI => ?_) (fun n i v hi hI hw => ?_)
  · exact pk_le 5 5 (fun _ => nm_e (H v hI)) (fun z => absurd z (by omega))
  · exact pk_le 5 i (fun z => absurd z (by omega)) (fun _ => ⟨pk_in i 5 hi, pk_in i 5 hi, nm_e (nm_r (nI_1 i) (hw _ (dl_fill (nI_clamp (by omega)) hI (by rw [nI_clamp (by omega), h10 i hi, dl_nb (hs i hi)]))))⟩)
theorem dl_l121 {post : Int32 → St2 → Prop} {J : Int32 → Int32 → Int32 → Int32 → (Nat → Int32) → (Nat → Int32) → (Nat → Int32) → (Nat → Int64) → (Nat → Int32) → (Nat → Int32) → (Nat → Int32) → (Nat → Int32) → (Nat → Int32) → (Nat → Int32) → (Nat → Int32) → Prop} {x3 x5 : Int32} (T : dl_T a1 a2) (loc old : Nat → Nat) (n len aw f : Nat) (hn : n < 4) (hlen : len ≤ n) (haw : 1 ≤ aw) (haw2 : aw ≤ n + 1) (hf : f < 8)
    (hl : ∀ i, i < 5 → loc i < 8) (ho : ∀ i, i < 5 → old i < 8) (h8 : ∀ i, i < 5 → a8 i = nI (loc i)) (h9 : ∀ i, i < 5 → a9 i = nI (old i)) (h10 : ∀ i, i < 5 → a10 i = nI (loc i))
    (H1 : 2 * len ≤ n → ∀ b c, (∀ i, i < 5 → b i = nI (dl_nl loc old aw f i)) → (∀ i, i < 5 → c i = nI (loc i)) → J (nI (n + 1 - len)) 1 x5 (nI (n + 1)) a1 a2 a3 a4 a5 a6 a7 b c a10 a11)
    (H2 : n < 2 * len → ∀ b, (∀ i, i < 5 → b i = nI (dl_nl loc old aw f i)) → J (nI len) (nI (aw + 1)) x3 (nI (n + 1)) a1 a2 a3 a4 a5 a6 a7 b a9 a10 a11) :
    ∃ k, wX_findLocator_121 post J (nI len) (nI aw) x3 (nI n) x5 (nI f) bc rc fc mc k (nI aw) a1 a2 a3 a4 a5 a6 a7 a8 a9 a10 a11 := by
  refine pk_loop (fun k i v => wX_findLocator_121 post J (nI len) (nI aw) x3 (nI n) x5 (nI f) bc rc fc mc k (nI i) a1 a2 a3 a4 a5 a6 a7 v a9 a10 a11) (fun i v => aw ≤ i ∧ ∀ j, j < 5 → v j = nI (if j < i then dl_nl loc old aw f j else loc j)) 5 aw a8 (by omega) ⟨Nat.le_refl _, fun j hj => ?_⟩ (fun k v hI => ?_) (fun k i v hi hI hw => ?_)
  · rw [h8 j hj]
    by_cases e : j < aw
    · rw [if_pos e]
      unfold dl_nl
      rw [if_neg (by omega)]
    · rw [if_neg e]
  · obtain ⟨_, hI⟩ := hI
    have hv : ∀ j, j < 5 → v j = nI (dl_nl loc old aw f j) := fun j hj => by rw [hI j hj, if_pos hj]
    have e2 : 2 * nI len = nI (2 * len) := pk_mul 2 len
    refine pk_le 5 5 (fun _ => pk_le (2 * len) n (fun z => nm_r (e' := nI (n + 1 - len)) (by rw [nI_1, pk_sub (by omega)]) (dl_l192 loc hl h10 (fun c hc => ?_))) (fun z => nm_r (nI_1 aw) (nm_r (nI_1 n) (H2 z v hv))) e2) (fun z => absurd z (by omega))
    rw [nI_1]
    exact H1 z v c hv hc
  · obtain ⟨ha, hI⟩ := hI
    refine pk_le 5 i (fun z => absurd z (by omega)) (fun _ => ⟨pk_in (i - aw) 5 (by omega) (pk_sub ha), dl_prod T f (old (i - aw)) hf (ho _ (by omega)) ⟨pk_in i 5 hi, pk_in i 5 hi, nm_e (nm_r (nI_1 i) (hw _ ⟨by omega, ?_⟩))⟩ rfl ?_⟩)
    · refine dl_upd (nI_clamp (by omega)) hI ?_ (fun j hj hne => ?_)
      · rw [nI_clamp (by omega), hI i hi, if_neg (by omega), nx_xor, dl_by _ (dl_xl (hl i hi) (dl_mull _ _)), if_pos (by omega)]
        unfold dl_nl
        rw [if_pos ha]
      · by_cases e : j < i
        · rw [if_pos e, if_pos (by omega)]
        · rw [if_neg e, if_neg (by omega)]
    · rw [pk_cl (i - aw) (pk_sub ha), h9 _ (by omega)]
theorem dl_l83 {post : Int32 → St2 → Prop} {J : Int32 → Int32 → Int32 → Int32 → (Nat → Int32) → (Nat → Int32) → (Nat → Int32) → (Nat → Int64) → (Nat → Int32) → (Nat → Int32) → (Nat → Int32) → (Nat → Int32) → (Nat → Int32) → (Nat → Int32) → (Nat → Int32) → Prop} (T : dl_T a1 a2) (loc old : Nat → Nat) (n len aw lf f : Nat) (hn : n < 4) (hlen : len ≤ n) (haw : 1 ≤ aw) (haw2 : aw ≤ n + 1) (hf : f < 8) (hlf0 : 0 < lf) (hlf : lf < 8)
    (hl : ∀ i, i < 5 → loc i < 8) (ho : ∀ i, i < 5 → old i < 8) (h8 : ∀ i, i < 5 → a8 i = nI (loc i)) (h9 : ∀ i, i < 5 → a9 i = nI (old i))
    (H1 : 2 * len ≤ n → ∀ b c d, (∀ i, i < 5 → b i = nI (dl_nl loc old aw (dl_quo f lf) i)) → (∀ i, i < 5 → c i = nI (loc i)) → J (nI (n + 1 - len)) 1 (nI f) (nI (n + 1)) a1 a2 a3 a4 a5 a6 a7 b c d a11)
    (H2 : n < 2 * len → ∀ b d, (∀ i, i < 5 → b i = nI (dl_nl loc old aw (dl_quo f lf) i)) → J (nI len) (nI (aw + 1)) (nI lf) (nI (n + 1)) a1 a2 a3 a4 a5 a6 a7 b a9 d a11) :
    ∃ k, wX_findLocator_83 post J (nI len) (nI aw) (nI lf) (nI n) (nI f) bc rc fc mc k 0 a1 a2 a3 a4 a5 a6 a7 a8 a9 a10 a11 := by
  refine pk_loop (fun k i v => wX_findLocator_83 post J (nI len) (nI aw) (nI lf) (nI n) (nI f) bc rc fc mc k (nI i) a1 a2 a3 a4 a5 a6 a7 a8 a9 v a11) (fun i v => ∀ j, j < i → v j = nI (loc j)) 5 0 a10 (by decide) (fun j hj => absurd hj (by omega)) (fun k v hI => ?_) (fun k i v hi hI hw => ?_)
  · exact pk_le 5 5 (fun _ => dl_quot T f lf hf hlf0 hlf (dl_l121 T loc old n len aw (dl_quo f lf) hn hlen haw haw2 (dl_quol _ _) hl ho h8 h9 hI (fun z b c hb hc => H1 z b c v hb hc) (fun z b hb => H2 z b v hb))) (fun z => absurd z (by omega))
  · exact pk_le 5 i (fun z => absurd z (by omega)) (fun _ => ⟨pk_in i 5 hi, pk_in i 5 hi, nm_e (nm_r (nI_1 i) (hw _ (dl_fill (nI_clamp (by omega)) hI (by rw [nI_clamp (by omega), h8 i hi, dl_nb (hl i hi)]))))⟩)
theorem dl_l54 {post : Int32 → St2 → Prop} (T : dl_T a1 a2) (S : Nat → Nat) (hS : ∀ j, j < 4 → S j < 8) (h7 : ∀ j, j < 4 → a7 j = nI (S j)) (h8 : ∀ i, i < 5 → a8 i = nI (dl_one i)) (h9 : ∀ i, i < 5 → a9 i = nI (dl_one i))
    (H : ∀ b c d, (∀ i, i < 5 → b i = nI ((dl_bm S 4).2.2.2.1 i)) → post (nI (dl_bm S 4).1) (bc, rc, fc, mc, a1, a2, a3, a4, a5, a6, a7, b, c, d, a11)) :
    ∃ k, wX_findLocator_54 post bc rc fc mc k 0 1 1 0 a1 a2 a3 a4 a5 a6 a7 a8 a9 a10 a11 := by
  refine pk_loop (fun k n (s : Int32 × Int32 × Int32 × (Nat → Int32) × (Nat → Int32) × (Nat → Int32)) => wX_findLocator_54 post bc rc fc mc k s.1 s.2.1 s.2.2.1 (nI n) a1 a2 a3 a4 a5 a6 a7 s.2.2.2.1 s.2.2.2.2.1 s.2.2.2.2.2 a11)
    (fun n s => s.1 = nI (dl_bm S n).1 ∧ s.2.1 = nI (dl_bm S n).2.1 ∧ s.2.2.1 = nI (dl_bm S n).2.2.1 ∧ (∀ i, i < 5 → s.2.2.2.1 i = nI ((dl_bm S n).2.2.2.1 i)) ∧ (∀ i, i < 5 → s.2.2.2.2.1 i = nI ((dl_bm S n).2.2.2.2 i))) 4 0 (0, 1, 1, a8, a9, a10) (by decide) ⟨rfl, rfl, rfl, h8, h9⟩ (fun k s hI => ?_) (fun k n s hn hI hw => ?_)
  · obtain ⟨x1, x2, x3, b, c, d⟩ := s
    obtain ⟨h1, h2, h3, h4, h5⟩ := hI
    dsimp only at h1 h2 h3 h4 h5
    subst h1
    exact pk_le 4 4 (fun _ => H b c d h4) (fun z => absurd z (by omega))
  · obtain ⟨x1, x2, x3, b, c, d⟩ := s
    obtain ⟨h1, h2, h3, h4, h5⟩ := hI
    dsimp only at h1 h2 h3 h4 h5
    subst h1 h2 h3
    have hok := dl_okn hS n (by omega)
    have hE : dl_bm S (n + 1) = dl_bm1 S n (dl_bm S n) := rfl
    rw [hE] at hw
    clear hE
    generalize dl_bm S n = s at hok hw h4 h5 ⊢
    obtain ⟨len, aw, lf, loc, old⟩ := s
    obtain ⟨o1, o2, o3, o4, o5, o6, o7⟩ := hok
    dsimp only at o1 o2 o3 o4 o5 o6 o7 h4 h5
    have hfl := dl_fltl (loc := loc) hS hn len
    refine pk_le 4 n (fun z => absurd z (by omega)) (fun _ => dl_fault T S loc hS o6 h7 h4 n len hn o1 (pk_eq (dl_flt S loc n len) 0 (fun z => nm_r (nI_1 aw) (nm_r (nI_1 n) (hw (nI len, nI (aw + 1), nI lf, b, c, d) ?_))) (fun z => dl_l83 T loc old n len aw lf (dl_flt S loc n len) hn o1 o2 o3 hfl o4 o5 o6 o7 h4 h5 (fun g b' c' d' hb hc => hw (_, _, _, _, _, _) ?_) (fun g b' d' hb => hw (nI len, nI (aw + 1), nI lf, b', c, d') ?_))))
    · have e : dl_bm1 S n (len, aw, lf, loc, old) = (len, aw + 1, lf, loc, old) := if_pos z
      rw [e]
      exact ⟨rfl, rfl, rfl, h4, h5⟩
    · have e : dl_bm1 S n (len, aw, lf, loc, old) = (n + 1 - len, 1, dl_flt S loc n len, dl_nl loc old aw (dl_quo (dl_flt S loc n len) lf), loc) := (if_neg z).trans (if_neg (Nat.not_lt.mpr g))
      rw [e]
      exact ⟨rfl, rfl, rfl, hb, hc⟩
    · have e : dl_bm1 S n (len, aw, lf, loc, old) = (len, aw + 1, lf, dl_nl loc old aw (dl_quo (dl_flt S loc n len) lf), old) := (if_neg z).trans (if_pos g)
      rw [e]
      exact ⟨rfl, rfl, rfl, hb, h5⟩
theorem dl_find {post : Int32 → St2 → Prop} (T : dl_T a1 a2) (S : Nat → Nat) (hS : ∀ j, j < 4 → S j < 8) (h7 : ∀ j, j < 4 → a7 j = nI (S j))
    (H : ∀ b c d, (∀ i, i < 5 → b i = nI ((dl_bm S 4).2.2.2.1 i)) → post (nI (dl_bm S 4).1) (bc, rc, fc, mc, a1, a2, a3, a4, a5, a6, a7, b, c, d, a11)) :
    wpX_findLocator post (bc, rc, fc, mc, a1, a2, a3, a4, a5, a6, a7, a8, a9, a10, a11) := by
  refine pk_loop (fun k i (s : (Nat → Int32) × (Nat → Int32)) => wX_findLocator_2 post bc rc fc mc k (nI i) a1 a2 a3 a4 a5 a6 a7 s.1 s.2 a10 a11) (fun i s => (∀ j, j < i → s.1 j = nI (dl_one j)) ∧ ∀ j, j < i → s.2 j = nI (dl_one j)) 5 0 (a8, a9) (by decide) ⟨fun j hj => absurd hj (by omega), fun j hj => absurd hj (by omega)⟩ (fun k s hI => ?_) (fun k i s hi hI hw => ?_)
  · exact pk_le 5 5 (fun _ => dl_l54 T S hS h7 hI.1 hI.2 H) (fun z => absurd z (by omega))
  · obtain ⟨b, c⟩ := s
    obtain ⟨h1, h2⟩ := hI
    dsimp only at h1 h2
    refine pk_le 5 i (fun z => absurd z (by omega)) (fun _ => pk_eq i 0 (fun z => ?_) (fun z => ?_))
    · unfold wX_findLocator_21
      refine ⟨pk_in i 5 hi, nm_e (pk_eq i 0 (fun _ => ⟨pk_in i 5 hi, nm_e (nm_r (nI_1 i) (hw (_, _) ⟨dl_fill (nI_clamp (by omega)) h1 ?_, dl_fill (nI_clamp (by omega)) h2 ?_⟩))⟩) (fun g => absurd z g))⟩
      · rw [z]; decide
      · rw [z]; decide
    · unfold wX_findLocator_21
      refine ⟨pk_in i 5 hi, nm_e (pk_eq i 0 (fun g => absurd g z) (fun _ => ⟨pk_in i 5 hi, nm_e (nm_r (nI_1 i) (hw (_, _) ⟨dl_fill (nI_clamp (by omega)) h1 ?_, dl_fill (nI_clamp (by omega)) h2 ?_⟩))⟩))⟩
      · unfold dl_one
        rw [if_neg z]; decide
      · unfold dl_one
        rw [if_neg z]; decide
end
end
section
/-! the evaluator; the places are tried; a word is mended -/
theorem dl_odd : ∀ d, d < 5 → nI d &&& 1 = nI (d % 2) := by decide +kernel
theorem dl_rem7 {v d : Nat} (h : v * d < 1000) : nI v * nI d - nI v * nI d / 7 * 7 = nI (v * d % 7) := by
  rw [pk_mul]
  show nI (v * d) - nI (v * d) / nI 7 * nI 7 = _
  exact pk_rem (by omega) (by decide) (by decide)
theorem dl_vd {v d : Nat} (hv : v < 7) (hd : d < 5) : v * d < 1000 := Nat.lt_of_le_of_lt (Nat.mul_le_mul (Nat.le_of_lt hv) (Nat.le_of_lt hd)) (by decide)
section
variable {bc rc fc mc : Int32} {a1 a2 a3 : Nat → Int32} {a4 : Nat → Int64} {a5 a6 a7 a8 a9 a10 a11 : Nat → Int32}
theorem dl_e11 {post : St2 → Prop} {J : Int32 → (Nat → Int32) → (Nat → Int32) → (Nat → Int32) → (Nat → Int64) → (Nat → Int32) → (Nat → Int32) → (Nat → Int32) → (Nat → Int32) → (Nat → Int32) → (Nat → Int32) → (Nat → Int32) → Prop} (T : dl_T a1 a2) (S loc : Nat → Nat) (hS : ∀ j, j < 4 → S j < 8) (hl : ∀ i, i < 5 → loc i < 8) (h7 : ∀ j, j < 4 → a7 j = nI (S j)) (h8 : ∀ i, i < 5 → a8 i = nI (loc i)) (n : Nat) (hn : n < 4)
    (H : J (nI (n + 1)) a1 a2 a3 a4 a5 a6 a7 a8 a9 a10 (upd a11 n (nI (dl_ev S loc n)))) : ∃ k, wX_findEvaluator_11 post J (nI n) bc rc fc mc a1 a2 a3 a4 a5 a6 a7 a8 a9 a10 a11 k 0 0 := by
  refine pk_loop (fun k i v => wX_findEvaluator_11 post J (nI n) bc rc fc mc a1 a2 a3 a4 a5 a6 a7 a8 a9 a10 a11 k v (nI i)) (fun i v => v = nI (dl_evs S loc n i)) (n + 1) 0 0 (by omega) rfl (fun k v hI => ?_) (fun k i v hi hI hw => ?_)
  · subst hI
    exact pk_lt n (n + 1) (fun _ => ⟨pk_in n 4 hn, nm_r (e' := upd a11 n (nI (dl_ev S loc n))) (by rw [nI_clamp (by omega), dl_by _ (dl_evsl _ _ _ _)]; rfl) (nm_r (nI_1 n) H)⟩) (fun z => absurd z (by omega))
  · subst hI
    refine pk_lt n i (fun z => absurd z (by omega)) (fun _ => ⟨pk_in i 5 (by omega), pk_in (n - i) 4 (by omega) (pk_sub (by omega)), dl_prod T (loc i) (S (n - i)) (hl _ (by omega)) (hS _ (by omega)) (nm_r (nx_xor _ _) (nm_r (nI_1 i) (hw _ rfl))) ?_ ?_⟩)
    · rw [nI_clamp (by omega), h8 _ (by omega)]
    · rw [pk_cl (n - i) (pk_sub (by omega)), h7 _ (by omega)]
theorem dl_eval {post : St2 → Prop} (T : dl_T a1 a2) (S loc : Nat → Nat) (hS : ∀ j, j < 4 → S j < 8) (hl : ∀ i, i < 5 → loc i < 8) (h7 : ∀ j, j < 4 → a7 j = nI (S j)) (h8 : ∀ i, i < 5 → a8 i = nI (loc i))
    (H : ∀ b, (∀ j, j < 4 → b j = nI (dl_ev S loc j)) → post (bc, rc, fc, mc, a1, a2, a3, a4, a5, a6, a7, a8, a9, a10, b)) : wpX_findEvaluator post (bc, rc, fc, mc, a1, a2, a3, a4, a5, a6, a7, a8, a9, a10, a11) := by
  refine pk_loop (fun k n v => wX_findEvaluator_2 post bc rc fc mc k (nI n) a1 a2 a3 a4 a5 a6 a7 a8 a9 a10 v) (fun n v => ∀ j, j < n → v j = nI (dl_ev S loc j)) 4 0 a11 (by decide) (fun j hj => absurd hj (by omega)) (fun k v hI => ?_) (fun k n v hn hI hw => ?_)
  · exact pk_le 4 4 (fun _ => H v hI) (fun z => absurd z (by omega))
  · exact pk_le 4 n (fun z => absurd z (by omega)) (fun _ => dl_e11 T S loc hS hl h7 h8 n hn (hw _ (dl_fill rfl hI rfl)))
theorem dl_c92 {post : Int32 → St2 → Prop} {J4 : Int32 → Int32 → (Nat → Int32) → (Nat → Int32) → (Nat → Int32) → (Nat → Int64) → (Nat → Int32) → (Nat → Int32) → (Nat → Int32) → (Nat → Int32) → (Nat → Int32) → (Nat → Int32) → (Nat → Int32) → Prop} {J30 : Int32 → Int32 → Int32 → Int32 → Prop} {x1 x2 x4 x6 : Int32} (T : dl_T a1 a2) (loc : Nat → Nat) (hl : ∀ i, i < 5 → loc i < 8) (h8 : ∀ i, i < 5 → a8 i = nI (loc i)) (v d : Nat) (hv : v < 7) (hd : d < 5)
    (H : J30 x4 (nI (dl_slp loc v (d + 1))) x6 (nI (d + 1))) : wX_correct_92 post J4 J30 x1 x2 (nI v) x4 (nI (dl_slp loc v d)) x6 (nI d) bc rc fc mc a1 a2 a3 a4 a5 a6 a7 a8 a9 a10 a11 := by
  have e : dl_slp loc v (d + 1) = if d % 2 = 1 then dl_slp loc v d ^^^ dl_mul (loc d) (dl_pw (v * (d - 1) % 7)) else dl_slp loc v d := rfl
  rw [e] at H
  unfold wX_correct_92
  refine pk_eq (d % 2) 1 (fun z => ?_) (fun z => ?_) (dl_odd d hd)
  · rw [if_pos z] at H
    have e1 : nI d - 1 = nI (d - 1) := pk_sub (b := 1) (by omega)
    have hm : v * (d - 1) % 7 < 7 := Nat.mod_lt _ (by decide)
    rw [e1, dl_rem7 (dl_vd hv (by omega))]
    refine ⟨pk_in d 5 hd, by decide, pk_in (v * (d - 1) % 7) 14 (by omega), dl_prod T (loc d) (dl_pw (v * (d - 1) % 7)) (hl d hd) (dl_pwl _) (nm_r (nx_xor _ _) (nm_r (nI_1 d) H)) ?_ ?_⟩
    · rw [nI_clamp (by omega), h8 d hd]
    · rw [nI_clamp (by omega), T.1 _ (by omega)]
  · rw [if_neg z] at H
    exact nm_r (nI_1 d) H
theorem dl_c30 {post : Int32 → St2 → Prop} {J4 : Int32 → Int32 → (Nat → Int32) → (Nat → Int32) → (Nat → Int32) → (Nat → Int64) → (Nat → Int32) → (Nat → Int32) → (Nat → Int32) → (Nat → Int32) → (Nat → Int32) → (Nat → Int32) → (Nat → Int32) → Prop} (T : dl_T a1 a2) (loc ev w : Nat → Nat) (hl : ∀ i, i < 5 → loc i < 8) (h8 : ∀ i, i < 5 → a8 i = nI (loc i)) (he : ∀ i, i < 4 → ev i < 8) (h11 : ∀ i, i < 4 → a11 i = nI (ev i)) (hw : ∀ i, i < 7 → w i < 8) (h6 : ∀ i, i < 7 → a6 i = nI (w i)) (i c : Nat) (hi : i < 7) (hc : c < 8)
    (H : ∀ b, (∀ j, j < 7 → b j = nI (if j = i then w j ^^^ dl_cor loc ev i else w j)) → J4 (nI (if dl_cor loc ev i = 0 then c else c + 1)) (nI (i + 1)) a1 a2 a3 a4 a5 b a7 a8 a9 a10 a11) :
    ∃ k, wX_correct_30 post J4 (nI c) (nI i) (nI ((7 - i) % 7)) bc rc fc mc a1 a2 a3 a4 a5 a6 a7 a8 a9 a10 a11 k 0 0 0 0 := by
  have hv : (7 - i) % 7 < 7 := Nat.mod_lt _ (by decide)
  have hcor : dl_cor loc ev i = if dl_val loc ((7 - i) % 7) 5 = 0 then (if dl_slp loc ((7 - i) % 7) 5 = 0 then 0 else dl_quo (dl_val ev ((7 - i) % 7) 4) (dl_slp loc ((7 - i) % 7) 5)) else 0 := rfl
  generalize (7 - i) % 7 = v at hv hcor ⊢
  refine pk_loop (fun k d (s : Int32 × Int32 × Int32) => wX_correct_30 post J4 (nI c) (nI i) (nI v) bc rc fc mc a1 a2 a3 a4 a5 a6 a7 a8 a9 a10 a11 k s.1 s.2.1 s.2.2 (nI d)) (fun d s => s.1 = nI (dl_val loc v d) ∧ s.2.1 = nI (dl_slp loc v d) ∧ s.2.2 = nI (dl_val ev v (min d 4))) 5 0 (0, 0, 0) (by decide) ⟨rfl, rfl, rfl⟩ (fun k s hI => ?_) (fun k d s hd hI hgo => ?_)
  · obtain ⟨x4, x5, x6⟩ := s
    obtain ⟨h4, h5, h6'⟩ := hI
    dsimp only at h4 h5 h6'
    subst h4 h5 h6'
    have l4 := dl_vall loc v 5
    have l5 := dl_slpl loc v 5
    have l6 := dl_vall ev v 4
    have skip : dl_cor loc ev i = 0 → J4 (nI c) (nI (i + 1)) a1 a2 a3 a4 a5 a6 a7 a8 a9 a10 a11 := by
      intro z
      have t := H a6 (fun j hj => by rw [h6 j hj, z, Nat.xor_zero, ite_self])
      rw [if_pos z] at t
      exact t
    refine pk_le 5 5 (fun _ => pk_eq (dl_val loc v 5) 0 (fun z4 => pk_eq (dl_slp loc v 5) 0 (fun z5 => nm_r (nI_1 i) (skip ?_)) (fun z5 => ?_)) (fun z4 => nm_r (nI_1 i) (skip ?_))) (fun z => absurd z (by omega))
    · rw [hcor, if_pos z4, if_pos z5]
    · rw [if_pos z4, if_neg z5] at hcor
      have lq := dl_quol (dl_val ev v 4) (dl_slp loc v 5)
      have F : ∀ j, j < 7 → upd a6 (nI i).toNatClampNeg ((a6 (nI i).toNatClampNeg ^^^ nI (dl_quo (dl_val ev v 4) (dl_slp loc v 5))).toInt8.toInt32) j = nI (if j = i then w j ^^^ dl_cor loc ev i else w j) := by
        refine dl_upd (nI_clamp (by omega)) h6 ?_ (fun j hj hn => if_neg hn)
        rw [nI_clamp (by omega), h6 i hi, nx_xor, dl_by _ (dl_xl (hw i hi) lq), if_pos rfl, hcor]
      have t := H _ F
      refine dl_quot T (dl_val ev v 4) (dl_slp loc v 5) l6 (by omega) l5 ⟨pk_in i 7 hi, pk_in i 7 hi, nm_e (pk_eq (dl_quo (dl_val ev v 4) (dl_slp loc v 5)) 0 (fun zq => nm_r (nI_1 i) ?_) (fun zq => nm_r (nI_1 c) (nm_r (nI_1 i) ?_)))⟩
      · rw [if_pos (hcor.trans zq)] at t
        exact t
      · rw [if_neg (fun y => zq (hcor.symm.trans y))] at t
        exact t
    · rw [hcor, if_neg z4]
  · obtain ⟨x4, x5, x6⟩ := s
    obtain ⟨h4, h5, h6'⟩ := hI
    dsimp only at h4 h5 h6'
    subst h4 h5 h6'
    have hm : v * d % 7 < 7 := Nat.mod_lt _ (by decide)
    have er := dl_rem7 (dl_vd hv hd)
    refine pk_le 5 d (fun z => absurd z (by omega)) (fun _ => ⟨by decide, pk_in (v * d % 7) 14 (by omega) er, nm_r (e' := nI (dl_pw (v * d % 7))) (by rw [pk_cl (v * d % 7) er, T.1 _ (by omega)]) ⟨pk_in d 5 hd, dl_prod T (loc d) (dl_pw (v * d % 7)) (hl d hd) (dl_pwl _) (nm_r (nx_xor _ _) (pk_le 4 d (fun z => ?_) (fun z => ?_))) (by rw [nI_clamp (by omega), h8 d hd]) rfl⟩⟩)
    · refine dl_c92 T loc hl h8 v d hv hd (hgo (_, _, _) ⟨rfl, rfl, ?_⟩)
      show nI (dl_val ev v (min d 4)) = nI (dl_val ev v (min (d + 1) 4))
      rw [show min d 4 = min (d + 1) 4 by omega]
    · refine ⟨pk_in d 4 z, dl_prod T (ev d) (dl_pw (v * d % 7)) (he d z) (dl_pwl _) (nm_r (nx_xor _ _) (dl_c92 T loc hl h8 v d hv hd (hgo (_, _, _) ⟨rfl, rfl, ?_⟩))) (by rw [nI_clamp (by omega), h11 d z]) rfl⟩
      show nI (dl_val ev v (min d 4) ^^^ dl_mul (ev d) (dl_pw (v * d % 7))) = nI (dl_val ev v (min (d + 1) 4))
      rw [show min d 4 = d by omega, show min (d + 1) 4 = d + 1 by omega]
      rfl
theorem dl_corr {post : Int32 → St2 → Prop} (T : dl_T a1 a2) (loc ev w : Nat → Nat) (hl : ∀ i, i < 5 → loc i < 8) (h8 : ∀ i, i < 5 → a8 i = nI (loc i)) (he : ∀ i, i < 4 → ev i < 8) (h11 : ∀ i, i < 4 → a11 i = nI (ev i)) (hw : ∀ i, i < 7 → w i < 8) (h6 : ∀ i, i < 7 → a6 i = nI (w i))
    (H : ∀ b, (∀ j, j < 7 → b j = nI (w j ^^^ dl_cor loc ev j)) → post (nI (dl_cnt (dl_cor loc ev) 7)) (bc, rc, fc, mc, a1, a2, a3, a4, a5, b, a7, a8, a9, a10, a11)) : wpX_correct post (bc, rc, fc, mc, a1, a2, a3, a4, a5, a6, a7, a8, a9, a10, a11) := by
  refine pk_loop (fun k i (s : Int32 × (Nat → Int32)) => wX_correct_4 post bc rc fc mc k s.1 (nI i) a1 a2 a3 a4 a5 s.2 a7 a8 a9 a10 a11) (fun i s => s.1 = nI (dl_cnt (dl_cor loc ev) i) ∧ ∀ j, j < 7 → s.2 j = nI (if j < i then w j ^^^ dl_cor loc ev j else w j)) 7 0 (0, a6) (by decide) ⟨rfl, fun j hj => ?_⟩ (fun k s hI => ?_) (fun k i s hi hI hgo => ?_)
  · rw [if_neg (by omega)]
    exact h6 j hj
  · obtain ⟨x, b⟩ := s
    obtain ⟨h1, h2⟩ := hI
    dsimp only at h1 h2
    subst h1
    exact pk_le 7 7 (fun _ => H b (fun j hj => by rw [h2 j hj, if_pos hj])) (fun z => absurd z (by omega))
  · obtain ⟨x, b⟩ := s
    obtain ⟨h1, h2⟩ := hI
    dsimp only at h1 h2
    subst h1
    have hc := dl_cntl (dl_cor loc ev) i
    have er : (7 - nI i) - (7 - nI i) / 7 * 7 = nI ((7 - i) % 7) := by
      rw [show (7 : Int32) - nI i = nI (7 - i) from pk_sub (a := 7) (by omega)]
      show nI (7 - i) - nI (7 - i) / nI 7 * nI 7 = _
      exact pk_rem (by omega) (by decide) (by decide)
    refine pk_le 7 i (fun z => absurd z (by omega)) (fun _ => ⟨by decide, nm_r er (dl_c30 T loc ev (fun j => if j < i then w j ^^^ dl_cor loc ev j else w j) hl h8 he h11 (fun j hj => ?_) h2 i (dl_cnt (dl_cor loc ev) i) hi (by omega) (fun b' hb => hgo (_, _) ⟨rfl, fun j hj => ?_⟩))⟩)
    · show (if j < i then w j ^^^ dl_cor loc ev j else w j) < 8
      split
      · exact dl_xl (hw j hj) (dl_corl _ _ _)
      · exact hw j hj
    · show b' j = _
      rw [hb j hj]
      by_cases e : j = i
      · subst e
        rw [if_pos rfl, if_neg (by omega), if_pos (by omega)]
      · rw [if_neg e]
        by_cases e2 : j < i
        · rw [if_pos e2, if_pos (by omega)]
        · rw [if_neg e2, if_neg (by omega)]
end
end
section
/-! a word is read and mended -/
theorem dl_sy_lin {c e : Nat → Nat} (hc : ∀ i, i < 7 → c i < 8) (he : ∀ i, i < 7 → e i < 8) (hz : ∀ k, k < 4 → dl_syn c (k + 1) = 0) : ∀ k, k < 4 → dl_sy (fun i => c i ^^^ e i) k = dl_sy e k := by
  intro k hk
  show dl_hor (fun i => c i ^^^ e i) (k + 1) 7 = dl_hor e (k + 1) 7
  rw [dl_hor_lin hc he, show dl_hor c (k + 1) 7 = 0 from hz k hk, Nat.zero_xor]
theorem dl_2ih (i h : Nat) : 2 * nI i + nI h = nI (2 * i + h) := by
  show nI 2 * nI i + nI h = _
  rw [pk_mul, nI_add]
section
variable {bc rc fc mc : Int32} {a1 a2 a3 : Nat → Int32} {a4 : Nat → Int64} {a5 a6 a7 a8 a9 a10 a11 : Nat → Int32}
theorem dl_mend {post : Int32 → St2 → Prop} {x y : Int32} {m h : Nat} {S c e : Nat → Nat} (T : dl_T a1 a2) (hh : h < 2) (hS : ∀ j, j < 14 → S j < 8) (F : dl_F (a4 0) m S) (hc : ∀ i, i < 7 → c i < 8) (he : ∀ i, i < 7 → e i < 8)
    (hr : ∀ i, i < 7 → S (2 * i + h) ^^^ dl_scr (2 * i + h) = c i ^^^ e i) (hz : ∀ k, k < 4 → dl_syn c (k + 1) = 0) (G : dl_good e (dl_sy e))
    (H : ∀ b6 b7 b8 b9 b10 b11 : Nat → Int32, (∀ i, i < 7 → b6 i = nI (c i)) → post 1 (bc, rc, fc, nI (dl_cnt e 7), a1, a2, a3, a4, a5, b6, b7, b8, b9, b10, b11)) (hx : x = nI 0 := by rfl) (hy : y = nI h := by rfl) :
    wpX_mendWord post (bc, rc, fc, mc, a1, a2, a3, a4, a5, a6, a7, a8, a9, a10, a11) x y := by
  subst hy
  have hce : ∀ i, i < 7 → c i ^^^ e i < 8 := fun i hi => dl_xl (hc i hi) (he i hi)
  have hsl : ∀ k, k < 4 → dl_sy e k < 8 := fun k hk => dl_horl he (k + 1) 7
  refine pk_loop (fun n i v => wX_mendWord_2 post x (nI h) bc rc fc mc n (nI i) a1 a2 a3 a4 a5 v a7 a8 a9 a10 a11) (fun i v => ∀ j, j < i → v j = nI (c j ^^^ e j)) 7 0 a6 (by decide) (fun j hj => absurd hj (by omega)) (fun n v hI => ?_) (fun n i v hi hI hw => ?_)
  · refine pk_le 7 7 (fun _ => dl_sums T (fun i => c i ^^^ e i) hce hI (fun b7 h7 => ?_)) (fun z => absurd z (by omega))
    have ez : dl_zr (dl_sy fun i => c i ^^^ e i) 4 = dl_zr (dl_sy e) 4 := dl_zr_ext (dl_sy_lin hc he hz)
    have h7' : ∀ j, j < 4 → b7 j = nI (dl_sy e j) := fun j hj => by rw [h7 j hj, dl_sy_lin hc he hz j hj]
    dsimp only
    rw [ez]
    rcases G with ⟨g1, g2, g3⟩ | ⟨g1, g2, g3, g4⟩
    · rw [g1]
      rw [g2] at H
      exact br_f (by decide) (H v b7 a8 a9 a10 a11 (fun i hi => by rw [hI i hi, g3 i hi, Nat.xor_zero]))
    · rw [g1]
      have hok := dl_okn hsl 4 (by decide)
      obtain ⟨_, _, _, _, _, hloc, _⟩ := hok
      have gc : dl_cnt (dl_cor (dl_bm (dl_sy e) 4).2.2.2.1 (dl_ev (dl_sy e) (dl_bm (dl_sy e) 4).2.2.2.1)) 7 = dl_cnt e 7 := dl_cnt_ext g4
      refine br_t rfl (dl_find T (dl_sy e) hsl h7' (fun b8 b9 b10 h8 => ?_))
      dsimp only
      refine pk_le (dl_bm (dl_sy e) 4).1 2 (fun _ => dl_eval T (dl_sy e) _ hsl hloc h7' h8 (fun b11 h11 => ?_)) (fun z => absurd z (by omega))
      dsimp only
      refine dl_corr T (dl_bm (dl_sy e) 4).2.2.2.1 (dl_ev (dl_sy e) (dl_bm (dl_sy e) 4).2.2.2.1) (fun i => c i ^^^ e i) hloc h8 (fun i _ => dl_evsl _ _ _ _) h11 hce hI (fun b6 h6 => ?_)
      have h6' : ∀ i, i < 7 → b6 i = nI (c i) := fun i hi => by rw [h6 i hi, g4 i hi, Nat.xor_assoc, Nat.xor_self, Nat.xor_zero]
      dsimp only
      refine br_t (by rw [gc, g3]) (dl_sums T c hc h6' (fun b7' _ => ?_))
      dsimp only
      rw [dl_zr_1 (S := dl_sy c) (n := 4) hz, gc]
      exact br_f (by decide) (H b6 b7' b8 b9 b10 b11 h6')
  · refine pk_le 7 i (fun z => absurd z (by omega)) (fun _ => dl_symat (2 * i + h) (by omega) (hS _ (by omega)) F ⟨pk_in i 7 hi, nm_e (nm_r (nI_1 i) (hw _ (dl_fill (nI_clamp (by omega)) hI ?_)))⟩ hx (dl_2ih i h))
    rw [hr i hi, dl_by _ (hce i hi)]
end
end
section
/-! the calls over a frame of which the bits i and j were turned -/
/-- the symbols on the line -/
def dl_fs (msg i j : Nat) : Nat → Nat := fun q => (dl_ts msg q ^^^ dl_E i q) ^^^ dl_E j q
/-- the word h of a message -/
def dl_cx (msg h : Nat) : Nat → Nat := dl_cw (dl_ms msg h 0) (dl_ms msg h 1) (dl_ms msg h 2)
theorem dl_cxl (msg h : Nat) : ∀ t, t < 7 → dl_cx msg h t < 8 := dl_cwl _ (dl_msl _ _ _) _ (dl_msl _ _ _) _ (dl_msl _ _ _)
theorem dl_fsl (msg : Nat) {i j : Nat} (hi : i < 50) (hj : j < 50) : ∀ q, q < 14 → dl_fs msg i j q < 8 := fun q hq => dl_xl (dl_xl (dl_tsl msg hq) (dl_El i hi q hq)) (dl_El j hj q hq)
theorem dl_x5 (c s a b : Nat) : (((c ^^^ s) ^^^ a) ^^^ b) ^^^ s = c ^^^ (a ^^^ b) := by
  rw [Nat.xor_assoc c s a, Nat.xor_assoc c, Nat.xor_assoc c, Nat.xor_assoc s a b, Nat.xor_comm s (a ^^^ b), Nat.xor_assoc (a ^^^ b), Nat.xor_self, Nat.xor_zero]
theorem dl_fsr (msg i j h : Nat) (hh : h < 2) (t : Nat) : dl_fs msg i j (2 * t + h) ^^^ dl_scr (2 * t + h) = dl_cx msg h t ^^^ dl_ww i j h t := by
  show (((dl_cm msg (2 * t + h) ^^^ dl_scr (2 * t + h)) ^^^ dl_E i (2 * t + h)) ^^^ dl_E j (2 * t + h)) ^^^ dl_scr (2 * t + h) = dl_cx msg h t ^^^ (dl_E i (2 * t + h) ^^^ dl_E j (2 * t + h))
  rw [dl_x5]
  unfold dl_cm
  rw [show (2 * t + h) % 2 = h by omega, show (2 * t + h) / 2 = t by omega]
  rfl
def dl_acc (msg h x : Nat) : Nat → Nat
  | 0 => x
  | k + 1 => dl_acc msg h x k ||| dl_ms msg h k * 2 ^ (3 * (5 - 2 * k - h))
theorem dl_msb (msg k q : Nat) : (msg / 2 ^ k % 8 * 2 ^ k).testBit q = (decide (k ≤ q) && (decide (q < k + 3) && msg.testBit q)) := by
  rw [Nat.testBit_mul_two_pow, show (8 : Nat) = 2 ^ 3 from rfl, Nat.testBit_mod_two_pow, Nat.testBit_div_two_pow]
  by_cases h : k ≤ q
  · rw [show q - k + k = q by omega, show (decide (q - k < 3)) = decide (q < k + 3) from by rw [decide_eq_decide]; omega]
  · simp [h]
theorem dl_accm {msg : Nat} (hm : msg < 262144) : dl_acc msg 1 (dl_acc msg 0 0 3) 3 = msg := by
  show (((((0 ||| msg / 2 ^ 15 % 8 * 2 ^ 15) ||| msg / 2 ^ 9 % 8 * 2 ^ 9) ||| msg / 2 ^ 3 % 8 * 2 ^ 3) ||| msg / 2 ^ 12 % 8 * 2 ^ 12) ||| msg / 2 ^ 6 % 8 * 2 ^ 6) ||| msg / 2 ^ 0 % 8 * 2 ^ 0 = msg
  apply Nat.eq_of_testBit_eq
  intro q
  rw [Nat.testBit_or, Nat.testBit_or, Nat.testBit_or, Nat.testBit_or, Nat.testBit_or, Nat.testBit_or, dl_msb, dl_msb, dl_msb, dl_msb, dl_msb, dl_msb, Nat.zero_testBit]
  cases hb : msg.testBit q with
  | false => simp
  | true =>
    have hq : q < 18 := by
      rcases Nat.lt_or_ge q 18 with g | g
      · exact g
      · have : msg.testBit q = false := Nat.testBit_lt_two_pow (Nat.lt_of_lt_of_le hm (Nat.pow_le_pow_right (n := 2) (by decide) g))
        rw [this] at hb
        exact absurd hb (by decide)
    clear hb
    revert q
    decide +kernel
theorem dl_shl {s k h : Nat} (hs : s < 8) (hk : k < 3) (hh : h < 2) : (nI s) <<< ((3 * ((5 - (2 * nI k)) - nI h)) &&& 31) = nI (s * 2 ^ (3 * (5 - 2 * k - h))) := by
  refine pk_shlN _ _ (dl_sc k hk h hh) ?_
  have h1 : 2 ^ (3 * (5 - 2 * k - h)) ≤ 2 ^ 15 := Nat.pow_le_pow_right (by decide) (by omega)
  have h2 := Nat.mul_le_mul (Nat.le_of_lt hs) h1
  omega
section
variable {bc rc fc mc : Int32} {a1 a2 a3 : Nat → Int32} {a4 : Nat → Int64} {a5 a6 a7 a8 a9 a10 a11 : Nat → Int32}
theorem dl_mw {post : Int32 → St2 → Prop} {x y : Int32} {m msg i j : Nat} (T : dl_T a1 a2) (hi : i < 50) (hj : j < 50) (F : dl_F (a4 0) m (dl_fs msg i j)) (h : Nat) (hh : h < 2)
    (H : ∀ b6 b7 b8 b9 b10 b11 : Nat → Int32, (∀ t, t < 7 → b6 t = nI (dl_cx msg h t)) → post 1 (bc, rc, fc, nI (dl_cnt (dl_ww i j h) 7), a1, a2, a3, a4, a5, b6, b7, b8, b9, b10, b11)) (hx : x = nI 0 := by rfl) (hy : y = nI h := by rfl) :
    wpX_mendWord post (bc, rc, fc, mc, a1, a2, a3, a4, a5, a6, a7, a8, a9, a10, a11) x y :=
  dl_mend T hh (dl_fsl msg hi hj) F (dl_cxl msg h) (fun t ht => dl_xl (dl_El i hi _ (by omega)) (dl_El j hj _ (by omega))) (fun t _ => dl_fsr msg i j h hh t) (dl_cw0 _ (dl_msl _ _ _) _ (dl_msl _ _ _) _ (dl_msl _ _ _)) (dl_ww_good hi hj hh) H hx hy
theorem dl_m47 {post : Int32 → St2 → Prop} {J : Int32 → Int32 → Int32 → Int32 → Int32 → Int32 → (Nat → Int32) → (Nat → Int32) → (Nat → Int32) → (Nat → Int64) → (Nat → Int32) → (Nat → Int32) → (Nat → Int32) → (Nat → Int32) → (Nat → Int32) → (Nat → Int32) → (Nat → Int32) → Prop} {x1 : Int32} (msg h x : Nat) (hh : h < 2) (h6 : ∀ t, t < 7 → a6 t = nI (dl_cx msg h t))
    (H : J (nI (dl_acc msg h x 3)) (nI (h + 1)) bc rc fc mc a1 a2 a3 a4 a5 a6 a7 a8 a9 a10 a11) : ∃ n, wX_message_47 post J x1 (nI h) bc rc fc mc a1 a2 a3 a4 a5 a6 a7 a8 a9 a10 a11 n (nI x) 0 := by
  refine pk_loop (fun n k v => wX_message_47 post J x1 (nI h) bc rc fc mc a1 a2 a3 a4 a5 a6 a7 a8 a9 a10 a11 n v (nI k)) (fun k v => v = nI (dl_acc msg h x k)) 3 0 _ (by decide) rfl (fun n v hI => ?_) (fun n k v hk hI hw => ?_)
  · subst hI
    exact pk_le 3 3 (fun _ => nm_r (nI_1 h) H) (fun z => absurd z (by omega))
  · subst hI
    have e4 : 4 + nI k = nI (4 + k) := nI_add 4 k
    have ek : dl_cx msg h (4 + k) = dl_ms msg h k := by
      rcases (show k = 0 ∨ k = 1 ∨ k = 2 by omega) with g | g | g <;> (subst g; rfl)
    refine pk_le 3 k (fun z => absurd z (by omega)) (fun _ => ⟨pk_in (4 + k) 7 (by omega) e4, nm_r (e' := nI (dl_acc msg h x (k + 1))) ?_ (nm_r (nI_1 k) (hw _ rfl))⟩)
    rw [pk_cl (4 + k) e4, h6 _ (by omega), ek, dl_shl (dl_msl _ _ _) hk hh, dl_or]
    rfl
theorem dl_m22 {post : Int32 → St2 → Prop} {n m msg i j : Nat} {y : Int32} (T : dl_T a1 a2) (hi : i < 50) (hj : j < 50) (F : dl_F (a4 0) m (dl_fs msg i j)) (h5 : a5 0 = nI 0) (h x : Nat) (hh : h < 2)
    (H : ∀ (mc' : Int32) (b6 b7 b8 b9 b10 b11 : Nat → Int32), wX_message_22 post 0 n (nI (dl_acc msg h x 3)) (nI (h + 1)) bc rc fc mc' a1 a2 a3 a4 a5 b6 b7 b8 b9 b10 b11) (hy : y = nI x := by rfl) :
    wX_message_22 post 0 (n + 1) y (nI h) bc rc fc mc a1 a2 a3 a4 a5 a6 a7 a8 a9 a10 a11 := by
  subst hy
  refine pk_le 2 h (fun z => absurd z (by omega)) (fun _ => ⟨pk_in 0 6 (by decide), dl_mw T hi hj F h hh (fun b6 b7 b8 b9 b10 b11 h6 => br_f (by decide) (dl_m47 msg h x hh h6 (H _ _ _ _ _ _ _))) ?_⟩)
  rw [sb_cl0, h5]
theorem dl_msgc {post : Int32 → St2 → Prop} {m msg i j : Nat} (hm : msg < 262144) (T : dl_T a1 a2) (hi : i < 50) (hj : j < 50) (F : dl_F (a4 0) m (dl_fs msg i j)) (h5 : a5 0 = nI 0)
    (H : ∀ (mc' : Int32) (b6 b7 b8 b9 b10 b11 : Nat → Int32), post (nI msg) (bc, 1, nI 1, mc', a1, a2, a3, a4, a5, b6, b7, b8, b9, b10, b11)) :
    wpX_message post (bc, 1, nI 1, mc, a1, a2, a3, a4, a5, a6, a7, a8, a9, a10, a11) 0 := by
  unfold wpX_message
  dsimp only
  refine dl_recv1 ?_
  dsimp only
  refine br_f (by decide) (br_t (by decide) ⟨3, ?_⟩)
  refine dl_m22 T hi hj F h5 0 0 (by decide) (fun mc' b6 b7 b8 b9 b10 b11 => ?_)
  refine dl_m22 T hi hj F h5 1 (dl_acc msg 0 0 3) (by decide) (fun mc'' c6 c7 c8 c9 c10 c11 => ?_)
  rw [dl_accm hm]
  exact br_t (by decide) (H _ _ _ _ _ _ _)
theorem dl_mendc {post : Int32 → St2 → Prop} {m msg i j : Nat} (T : dl_T a1 a2) (hi : i < 50) (hj : j < 50) (F : dl_F (a4 0) m (dl_fs msg i j)) (h5 : a5 0 = nI 0)
    (H : ∀ (mc' : Int32) (b6 b7 b8 b9 b10 b11 : Nat → Int32), post (nI (dl_cnt (dl_ww i j 0) 7 + dl_cnt (dl_ww i j 1) 7)) (bc, 1, nI 1, mc', a1, a2, a3, a4, a5, b6, b7, b8, b9, b10, b11)) :
    wpX_mended post (bc, 1, nI 1, mc, a1, a2, a3, a4, a5, a6, a7, a8, a9, a10, a11) 0 := by
  have hx : a5 (0 : Int32).toNatClampNeg = nI 0 := by rw [sb_cl0, h5]
  unfold wpX_mended
  dsimp only
  refine dl_recv1 ?_
  dsimp only
  refine br_f (by decide) (br_t (by decide) ⟨3, ?_⟩)
  refine br_f (by decide) ⟨pk_in 0 6 (by decide), dl_mw T hi hj F 0 (by decide) (fun b6 b7 b8 b9 b10 b11 _ => br_f (by decide) (nm_r (e' := nI (dl_cnt (dl_ww i j 0) 7)) (by rw [← nI_0, nI_add, Nat.zero_add]) (nm_r (nI_1 0) ?_))) hx⟩
  refine br_f (by decide) ⟨pk_in 0 6 (by decide), dl_mw T hi hj F 1 (by decide) (fun c6 c7 c8 c9 c10 c11 _ => br_f (by decide) (nm_r (nI_add _ _) (nm_r (nI_1 1) ?_))) hx⟩
  exact br_t (by decide) (H _ _ _ _ _ _ _)
theorem dl_goodc {post : Int32 → St2 → Prop} {m msg i j : Nat} (T : dl_T a1 a2) (hi : i < 50) (hj : j < 50) (F : dl_F (a4 0) m (dl_fs msg i j)) (h5 : a5 0 = nI 0)
    (H : ∀ (mc' : Int32) (b6 b7 b8 b9 b10 b11 : Nat → Int32), post (nI 1) (bc, 1, nI 1, mc', a1, a2, a3, a4, a5, b6, b7, b8, b9, b10, b11)) :
    wpX_good post (bc, 1, nI 1, mc, a1, a2, a3, a4, a5, a6, a7, a8, a9, a10, a11) := by
  have hx : a5 (0 : Int32).toNatClampNeg = nI 0 := by rw [sb_cl0, h5]
  unfold wpX_good
  dsimp only
  refine dl_recv1 ?_
  dsimp only
  refine ⟨2, br_f (by decide) ⟨pk_in 0 6 (by decide), dl_mw T hi hj F 0 (by decide) (fun b6 b7 b8 b9 b10 b11 _ => br_f (by decide) ⟨pk_in 0 6 (by decide), dl_mw T hi hj F 1 (by decide) (fun c6 c7 c8 c9 c10 c11 _ => br_f (by decide) (nm_r (nI_1 0) (nm_r (nI_1 0) ?_))) hx⟩) hx⟩⟩
  exact br_t (by decide) (H _ _ _ _ _ _ _)
end
end
section
/-! the law -/
section
variable {bc rc fc mc : Int32} {a1 a2 a3 : Nat → Int32} {a4 : Nat → Int64} {a5 a6 a7 a8 a9 a10 a11 : Nat → Int32}
theorem dl_place {post : Int32 → St2 → Prop} {x : Int32} (h5 : a5 0 = nI 0) (H0 : x = 0 → post 0 (bc, 1, nI 1, mc, a1, a2, a3, a4, a5, a6, a7, a8, a9, a10, a11)) (H1 : ¬ x = 0 → post (-1) (bc, 1, nI 1, mc, a1, a2, a3, a4, a5, a6, a7, a8, a9, a10, a11)) :
    wpX_place post (bc, 1, nI 1, mc, a1, a2, a3, a4, a5, a6, a7, a8, a9, a10, a11) x := by
  unfold wpX_place
  dsimp only
  refine dl_recv1 ?_
  dsimp only
  refine br_c (fun z => H1 (fun e => ?_)) (fun z => ?_)
  · rw [e] at z
    exact absurd z (by decide)
  · obtain ⟨k, hk, rfl⟩ := nI_of z
    refine pk_lt k 1 (fun g => ⟨pk_in k 6 (by omega), ?_⟩) (fun g => H1 (nI_ne0 (by omega) hk))
    have e : k = 0 := by omega
    subst e
    rw [dl_c0, h5]
    exact H0 rfl
theorem dl_179 {post : Int32 → St0 → Prop} {m1 m2 kc ks m msg i t : Nat} {z : Int32} (hm : msg < 262144) (T : dl_T a1 a2) (hi : i < 50) (ht : t < 42) (F : dl_F (a4 0) m (dl_fs msg i (8 + t))) (h5 : a5 0 = nI 0) (H : post 1 ()) :
    wL_lawOf_179 post m1 m2 (nI msg) (nI (dl_md i (8 + t))) z z kc ks (nI 50) 1 (nI 1) mc a1 a2 a3 a4 a5 a6 a7 a8 a9 a10 a11 := by
  unfold wL_lawOf_179
  refine br_t rfl (dl_msgc hm T hi (by omega) F h5 (fun mc1 b6 b7 b8 b9 b10 b11 => ?_))
  dsimp only
  refine br_t rfl (dl_mendc T hi (by omega) F h5 (fun mc2 c6 c7 c8 c9 c10 c11 => ?_))
  dsimp only
  refine br_t (by rw [dl_wts i hi t ht]) (dl_goodc T hi (by omega) F h5 (fun mc3 d6 d7 d8 d9 d10 d11 => ?_))
  dsimp only
  refine br_t rfl ?_
  unfold wpX_clear
  dsimp only
  refine br_t rfl ?_
  unfold wpX_frames
  dsimp only
  refine dl_recv0 ?_
  dsimp only
  exact br_t rfl H
theorem dl_104 {post : Int32 → St0 → Prop} {x3 : Int32} {msg i t : Nat} (hm : msg < 262144) (hi : i < 50) (ht : t < 42) (H : post 1 ()) :
    wL_lawOf_104 post 48 768 x3 (nI msg) (nI i) (nI (8 + t)) (nI (dl_md i (8 + t))) 0 0 := by
  unfold wL_lawOf_104
  refine ⟨by decide, by decide, 11, 68, by decide, by decide, dl_init (by decide) (by decide) (fun b1 b2 b3 T hg => ?_)⟩
  dsimp only
  refine dl_send T hg msg hm (fun l0 w F0 => ?_)
  dsimp only
  refine br_t rfl (dl_flip hi F0 (fun r1 l1 hr1 F1 => ?_))
  dsimp only
  refine br_t (nI_pos' (by omega)) (dl_flip (f := 8 + t) (by omega) F1 (fun r2 l2 hr2 F2 => ?_))
  have e8 : dl_fm (dl_fm 178 i) (8 + t) = dl_fm 178 i := if_neg (by omega)
  rw [e8] at F2
  have F3 : dl_F (l2 0) (dl_fm 178 i) (dl_fs msg i (8 + t)) := F2
  dsimp only
  refine br_t (nI_pos' (by omega)) ?_
  unfold wpX_frames
  dsimp only
  refine dl_recv (dl_fml i hi) (dl_see i hi) F3 (fun f hf => ?_)
  dsimp only
  refine br_t rfl (dl_place hf (fun z => ?_) (fun z => ?_))
  · dsimp only
    exact br_t z (dl_179 hm T hi ht F3 hf H)
  · dsimp only
    exact br_f z (dl_179 hm T hi ht F3 hf H)
theorem dl_lawOf (p0 p1 p2 p3 : Int32) : wpL_lawOf (fun r _ => r = 1) 48 768 () p0 p1 p2 p3 := by
  obtain ⟨msg, hm, e0⟩ := pk_andE p0 (m := 262143) 18 (by decide)
  obtain ⟨a, ha, e1⟩ := pk_andE p1 (m := 255) 8 (by decide)
  obtain ⟨b, hb, e2⟩ := pk_andE p2 (m := 255) 8 (by decide)
  have hi : a % 50 < 50 := Nat.mod_lt _ (by decide)
  have ht : b % 42 < 42 := Nat.mod_lt _ (by decide)
  have E1 : (p1 &&& 255) - (p1 &&& 255) / 50 * 50 = nI (a % 50) := by
    rw [e1]
    show nI a - nI a / nI 50 * nI 50 = _
    exact pk_rem (by omega) (by decide) (by decide)
  have E2 : 8 + ((p2 &&& 255) - (p2 &&& 255) / 42 * 42) = nI (8 + b % 42) := by
    rw [e2]
    show nI 8 + (nI b - nI b / nI 42 * nI 42) = _
    rw [pk_rem (by omega) (by decide) (by decide), nI_add]
  refine nm_r e0 ⟨by decide, nm_r E1 ⟨by decide, nm_r E2 ?_⟩⟩
  generalize a % 50 = i at hi ⊢
  generalize b % 42 = t at ht ⊢
  have K : ∀ z : Nat, dl_md i (8 + t) = z → wL_lawOf_104 (fun r _ => r = 1) 48 768 p3 (nI msg) (nI i) (nI (8 + t)) (nI z) 0 0 := fun z hz => hz ▸ dl_104 (by omega) hi ht rfl
  have D8 : ∀ k : Nat, 8 ≤ k → k < 50 → (nI k - 8) / 3 = nI ((k - 8) / 3) := by
    intro k h8 hk
    rw [show nI k - 8 = nI (k - 8) from pk_sub (b := 8) h8]
    exact pk_div (d := 3) (by omega) (by decide) (by decide)
  refine pk_eq i (8 + t) (fun z => ?_) (fun z => ?_)
  · have K0 := K 0 (if_pos z)
    unfold wL_lawOf_41
    refine pk_lt i 8 (fun g => absurd g (by omega)) (fun g => ⟨by decide, by decide, br_c (fun _ => ?_) (fun _ => ?_)⟩)
    · unfold wL_lawOf_72
      exact br_f (by decide) K0
    · unfold wL_lawOf_71 wL_lawOf_72
      exact br_f (by decide) K0
  · unfold wL_lawOf_41
    refine pk_lt i 8 (fun g => ?_) (fun g => ⟨by decide, by decide, pk_eq ((i - 8) / 3) ((8 + t - 8) / 3) (fun e => ?_) (fun e => ?_) (D8 i g hi) (D8 (8 + t) (by omega) (by omega))⟩)
    · unfold wL_lawOf_71 wL_lawOf_72
      refine br_t rfl (br_t rfl (pk_lt i 8 (fun _ => K 1 ?_) (fun y => absurd g (by omega))))
      unfold dl_md
      rw [if_neg z, if_neg (by omega)]
    · unfold wL_lawOf_72
      refine br_t rfl (br_f (by decide) (K 1 ?_))
      unfold dl_md
      rw [if_neg z, if_pos g, if_pos e]
    · unfold wL_lawOf_71 wL_lawOf_72
      refine br_t rfl (br_t rfl (pk_lt i 8 (fun y => absurd g (by omega)) (fun _ => K 2 ?_)))
      unfold dl_md
      rw [if_neg z, if_pos g, if_neg e]
end
theorem dl_cell {post : Int32 → Prop} {L : Nat} {xs : Nat → Int32} (hL : L ≤ 4) {x : Int32} (k : Nat) (hk : k < 4) (H : ∀ r, post r) (hx : x = nI k := by rfl) : wpL_cellAt post L xs () x := by
  subst hx
  exact pk_le L k (fun _ => H 0) (fun z => ⟨pk_in k L z, H _⟩)
theorem i_vc (xs : Nat → Int32) (L : Nat) (hL : L ≤ 4) : wpL_law (fun r => r = 1) L xs := by
  unfold wpL_law
  exact dl_cell hL 0 (by decide) (fun r1 => dl_cell hL 1 (by decide) (fun r2 => dl_cell hL 2 (by decide) (fun r3 => dl_cell hL 3 (by decide) (fun r4 => ⟨48, 768, by decide, by decide, dl_lawOf r1 r2 r3 r4⟩))))
end
