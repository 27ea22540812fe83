section
/-! arrays filled from place o on for i cells -/
def av_fl {α : Type} (g f : Nat → α) (o i : Nat) : Nat → α := fun j => if o ≤ j ∧ j < o + i then f (j - o) else g j
theorem av_fl0 {α : Type} {g f : Nat → α} {o : Nat} : av_fl g f o 0 = g := by
  funext j
  exact if_neg (by omega)
theorem av_fl_in {α : Type} {g f : Nat → α} {o n k : Nat} (h : k < n) : av_fl g f o n (o + k) = f k := by
  unfold av_fl
  rw [if_pos (show o ≤ o + k ∧ o + k < o + n by omega), Nat.add_sub_cancel_left]
theorem av_fl_z {α : Type} {g f : Nat → α} {n k : Nat} (h : k < n) : av_fl g f 0 n k = f k := by
  have t := av_fl_in (g := g) (f := f) (o := 0) h
  rw [Nat.zero_add] at t
  exact t
theorem av_fl_out {α : Type} {g f : Nat → α} {o n k : Nat} (h : k < o ∨ o + n ≤ k) : av_fl g f o n k = g k := if_neg (by omega)
theorem av_fl_aux {α : Type} {g f : Nat → α} {o i : Nat} (j : Nat) : (if j = o + i then f i else av_fl g f o i j) = av_fl g f o (i + 1) j := by
  unfold av_fl
  by_cases e : j = o + i
  · rw [if_pos e, if_pos (show o ≤ j ∧ j < o + (i + 1) by omega), e, Nat.add_sub_cancel_left]
  · rw [if_neg e]
    by_cases e2 : o ≤ j ∧ j < o + i
    · rw [if_pos e2, if_pos (show o ≤ j ∧ j < o + (i + 1) by omega)]
    · rw [if_neg e2, if_neg (show ¬ (o ≤ j ∧ j < o + (i + 1)) by omega)]
theorem av_st {g f s : Nat → Int32} {o i k : Nat} {x : Int32} (h : s = av_fl g f o i) (hk : k = o + i) (hx : x = f i) : upd s k x = av_fl g f o (i + 1) := by
  subst h
  subst hk
  subst hx
  funext j
  exact av_fl_aux j
theorem av_stL {g f s : Nat → Int64} {o i k : Nat} {x : Int64} (h : s = av_fl g f o i) (hk : k = o + i) (hx : x = f i) : vp_updL s k x = av_fl g f o (i + 1) := by
  subst h
  subst hk
  subst hx
  funext j
  exact av_fl_aux j
theorem av_flk {α : Type} {g f s : Nat → α} {o i : Nat} (h : s = av_fl g f o i) (hg : g (o + i) = f i) : s = av_fl g f o (i + 1) := by
  subst h
  funext j
  rw [← av_fl_aux j]
  by_cases e : j = o + i
  · rw [if_pos e, ← hg, ← e]
    exact av_fl_out (by omega)
  · rw [if_neg e]
theorem av_fl_read {α : Type} {g f s : Nat → α} {o i : Nat} (h : s = av_fl g f o i) : s (o + i) = g (o + i) := by
  subst h
  exact av_fl_out (by omega)
/-! places -/
theorem av_cl0 {i e : Nat} (h : i < e) (he : e < 2 ^ 31 := by decide) : (nI i).toNatClampNeg = 0 + i := by
  rw [nI_clamp (by omega), Nat.zero_add]
theorem av_ix {M : Int32} (m p i : Nat) (hM : M = nI m := by rfl) : M * nI p + nI i = nI (m * p + i) := by
  subst hM
  rw [pk_mul, nI_add]
theorem av_clo {M : Int32} (m p i : Nat) (h : m * p + i < 2 ^ 31) (hM : M = nI m := by rfl) : (M * nI p + nI i).toNatClampNeg = m * p + i := by
  rw [av_ix m p i hM]
  exact nI_clamp h
/-! the bits of 'filled' -/
def av_b (q : Nat) : Int32 := (1 : Int32) <<< (nI q &&& 31)
theorem av_b_or : ∀ q, q < 4 → ((0 : Int32) ||| av_b q).toInt8.toInt32 = av_b q := by decide +kernel
theorem av_b_set : ∀ q, q < 4 → ¬ (av_b q >>> (nI q &&& 31)) &&& 1 = 0 := by decide +kernel
theorem av_b_un : ∀ q, q < 4 → ((0 : Int32) >>> (nI q &&& 31)) &&& 1 = 0 := by decide +kernel
theorem av_b_clr : ∀ q, q < 4 → ((0 : Int32) &&& (av_b q ^^^ (-1))).toInt8.toInt32 = 0 := by decide +kernel
theorem av_nb {x : Int32} (h : x = 0 ∨ x = 1) : narrow .boolean (.int x) = .int x := by
  rcases h with h | h
  · subst h
    rfl
  · subst h
    rfl
/-! pure: words -/
def av_bt (x : Int64) (j : Nat) : Bool := x.toBitVec.getLsbD j
theorem av_ext {x y : Int64} (h : ∀ j, j < 64 → av_bt x j = av_bt y j) : x = y := Int64.toBitVec_inj.mp (BitVec.eq_of_getLsbD_eq (fun i hi => h i hi))
theorem av_m1L : ((0 : Int64) ^^^ (-1)).toBitVec = BitVec.allOnes 64 := by decide +kernel
theorem av_nL : (-1 : Int64).toBitVec = BitVec.allOnes 64 := by decide +kernel
theorem av_anL (x : Int64) : x &&& ((0 : Int64) ^^^ (-1)) = x := by
  apply Int64.toBitVec_inj.mp
  rw [Int64.toBitVec_and, av_m1L, BitVec.and_allOnes]
theorem av_orL (x : Int64) : (0 : Int64) ||| x = x := by
  apply Int64.toBitVec_inj.mp
  rw [Int64.toBitVec_or]
  exact BitVec.zero_or
theorem av_selfL (x : Int64) : x &&& (x ^^^ (-1)) = 0 := by
  apply Int64.toBitVec_inj.mp
  rw [Int64.toBitVec_and, Int64.toBitVec_xor, av_nL]
  apply BitVec.eq_of_getLsbD_eq
  intro i hi
  show _ = (0#64).getLsbD i
  rw [BitVec.getLsbD_and, BitVec.getLsbD_xor, BitVec.getLsbD_allOnes, BitVec.getLsbD_zero]
  simp [hi]
theorem av_m1I : ((0 : Int32) ^^^ (-1)).toBitVec = BitVec.allOnes 32 := by decide +kernel
theorem av_nI : (-1 : Int32).toBitVec = BitVec.allOnes 32 := by decide +kernel
theorem av_anI (x : Int32) : x &&& ((0 : Int32) ^^^ (-1)) = x := by
  apply Int32.toBitVec_inj.mp
  rw [Int32.toBitVec_and, av_m1I, BitVec.and_allOnes]
theorem av_orI (x : Int32) : (0 : Int32) ||| x = x := by
  apply Int32.toBitVec_inj.mp
  rw [Int32.toBitVec_or]
  exact BitVec.zero_or
theorem av_selfI (x : Int32) : x &&& (x ^^^ (-1)) = 0 := by
  apply Int32.toBitVec_inj.mp
  rw [Int32.toBitVec_and, Int32.toBitVec_xor, av_nI]
  apply BitVec.eq_of_getLsbD_eq
  intro i hi
  show _ = (0#32).getLsbD i
  rw [BitVec.getLsbD_and, BitVec.getLsbD_xor, BitVec.getLsbD_allOnes, BitVec.getLsbD_zero]
  simp [hi]
theorem av_tbit {w : Int64} {s : UInt64} {j : Nat} (hj : j < 64) (hs : s.toNat = j) : ((w.toUInt64 >>> s).toInt64 &&& 1) = 0 ↔ av_bt w j = false := by
  unfold av_bt
  have e : (w.toUInt64 >>> s).toInt64.toBitVec = w.toBitVec >>> j := by
    apply BitVec.eq_of_toNat_eq
    show (w.toUInt64 >>> s).toNat = _
    rw [UInt64.toNat_shiftRight, hs, Nat.mod_eq_of_lt hj, BitVec.toNat_ushiftRight]
    rfl
  rw [← Int64.toBitVec_inj, Int64.toBitVec_and, e]
  show w.toBitVec >>> j &&& 1#64 = 0#64 ↔ _
  constructor
  · intro h
    have t := congrArg (fun x => x.getLsbD 0) h
    simpa using t
  · intro h
    apply BitVec.eq_of_getLsbD_eq
    intro i hi
    cases i with
    | zero => simp [h]
    | succ i => simp
theorem av_cu : ∀ k, k < 64 → ((nI k).toInt64.toUInt64 &&& Int64.toUInt64 63).toNat = k := by decide +kernel
theorem av_sh1 : ∀ k, k < 64 → ((1 : Int64) <<< ((nI k).toInt64 &&& 63)).toBitVec = BitVec.twoPow 64 k := by decide +kernel
theorem av_63 {s : Nat} (h : s < 512) : nI s &&& 63 = nI (s % 64) := pk_andN (m := 63) (by omega) 6 (by decide)
theorem av_s6 {s : Nat} (h : s < 512) : nI s >>> ((6 : Int32) &&& 31) = nI (s / 64) := pk_shrN (by omega) _ 6 (by decide)
/-- a bit of a table of words, as the code asks for it -/
theorem av_ask {f : Int64} {s : Nat} (h : s < 512) : ((f.toUInt64 >>> ((nI s &&& 63).toInt64.toUInt64 &&& Int64.toUInt64 63)).toInt64 &&& 1) = 0 ↔ av_bt f (s % 64) = false := by
  rw [av_63 h]
  exact av_tbit (by omega) (av_cu _ (by omega))
theorem av_add {f : Int64} {t j : Nat} (h : t < 512) (hj : j < 64) : av_bt (f ||| ((1 : Int64) <<< ((nI t &&& 63).toInt64 &&& 63))) j = (av_bt f j || decide (j = t % 64)) := by
  unfold av_bt
  rw [av_63 h, Int64.toBitVec_or, av_sh1 _ (by omega), BitVec.getLsbD_or, BitVec.getLsbD_twoPow]
  by_cases e : j = t % 64
  · simp [e, show t % 64 < 64 by omega]
  · simp [e, show ¬ t % 64 = j by omega]
/-! pure: boxes: variable a in l..h, the others 0 -/
def av_lo (a l v : Nat) : Nat := if v = a then l else 0
def av_v (s v : Nat) : Nat := if v = 3 then 0 else s / 8 ^ v % 8
def av_m (a l h s : Nat) : Bool := Nat.ble (av_lo a l 0) (s % 8) && (Nat.ble (s % 8) (av_lo a h 0) && (Nat.ble (av_lo a l 1) (s / 8 % 8) && (Nat.ble (s / 8 % 8) (av_lo a h 1) && (Nat.ble (av_lo a l 2) (s / 64 % 8) && Nat.ble (s / 64 % 8) (av_lo a h 2)))))
theorem av_m_iff {a l h s : Nat} : av_m a l h s = true ↔ ∀ v, v < 3 → av_lo a l v ≤ av_v s v ∧ av_v s v ≤ av_lo a h v := by
  unfold av_m
  simp only [Bool.and_eq_true, Nat.ble_eq]
  constructor
  · intro ⟨h1, h2, h3, h4, h5, h6⟩ v hv
    rcases (show v = 0 ∨ v = 1 ∨ v = 2 by omega) with e | e | e
    · subst e
      exact ⟨by simpa [av_v] using h1, by simpa [av_v] using h2⟩
    · subst e
      exact ⟨by simpa [av_v] using h3, by simpa [av_v] using h4⟩
    · subst e
      exact ⟨by simpa [av_v] using h5, by simpa [av_v] using h6⟩
  · intro H
    have H0 := H 0 (by omega)
    have H1 := H 1 (by omega)
    have H2 := H 2 (by omega)
    simp only [av_v] at H0 H1 H2
    refine ⟨?_, ?_, ?_, ?_, ?_, ?_⟩
    · simpa using H0.1
    · simpa using H0.2
    · simpa using H1.1
    · simpa using H1.2
    · simpa using H2.1
    · simpa using H2.2
theorem av_v_lt (s v : Nat) : av_v s v < 8 := by
  unfold av_v
  split
  · omega
  · omega
theorem av_lo_lt {a l v : Nat} (h : l < 8) : av_lo a l v < 8 := by
  unfold av_lo
  split <;> omega
def av_S (l h : Nat) : Int32 := nI (2 ^ (h + 1) - 2 ^ l)
theorem av_S_bit : ∀ l, l < 8 → ∀ h, h < 8 → ∀ x, x < 8 → ((av_S l h >>> (nI x &&& 31)) &&& 1 = 0 ↔ ¬ (l ≤ x ∧ x ≤ h)) := by decide +kernel
theorem av_S_16 : ∀ l, l < 8 → ∀ h, h < 8 → (av_S l h).toInt16.toInt32 = av_S l h := by decide +kernel
def av_B (a l h x y : Nat) : Int32 := if x = y then 0 else nI (av_lo a h x) - nI (av_lo a l y)
theorem av_B_ok0 : ∀ h, h < 8 → ∀ l, l < 8 → (-20 : Int32) < nI h - nI l ∧ vp_nar .byte (nI h - nI l) = nI h - nI l := by decide +kernel
theorem av_B_ok {a l h x y : Nat} (hl : l < 8) (hh : h < 8) : (-20 : Int32) < av_B a l h x y ∧ vp_nar .byte (av_B a l h x y) = av_B a l h x y := by
  unfold av_B
  split
  · exact (by decide +kernel : (-20 : Int32) < 0 ∧ vp_nar .byte 0 = 0)
  · exact av_B_ok0 _ (av_lo_lt hh) _ (av_lo_lt hl)
theorem av_nar8 : ∀ l, l < 8 → vp_nar .byte (nI l) = nI l := by decide +kernel
def av_w0 : Nat → Int64 := fun k => if k = 0 then 1 else 0
theorem av_w0_m : ∀ s, s < 512 → av_bt (av_w0 (s / 64)) (s % 64) = av_m 0 0 0 s := by decide +kernel
theorem av_m_z {a b s : Nat} : av_m a 0 0 s = av_m b 0 0 s := by
  have e : ∀ c v, av_lo c 0 v = 0 := fun c v => by
    unfold av_lo
    split <;> rfl
  unfold av_m
  simp only [e]
theorem av_m_pt : ∀ a, a < 3 → ∀ k, k < 8 → ∀ s, s < 512 → av_m a k k s = decide (s = k * 8 ^ a) := by decide +kernel
def av_e (a : Nat) : Nat → Nat → Bool
  | 0, _ => false
  | i + 1, s => av_e a i s || decide (s = i * 8 ^ a)
theorem av_e8 : ∀ a, a < 3 → ∀ s, s < 512 → av_e a 8 s = av_m a 0 7 s := by decide +kernel
/-! pure: how many states, the greatest value -/
def av_cnt (a l h : Nat) : Nat → Nat
  | 0 => 0
  | n + 1 => if av_m a l h n then av_cnt a l h n + 1 else av_cnt a l h n
theorem av_cnt_pt : ∀ a, a < 3 → ∀ k, k < 8 → av_cnt a k k 512 = 1 := by decide +kernel
theorem av_cnt_any : ∀ a, a < 3 → av_cnt a 0 7 512 = 8 := by decide +kernel
theorem av_cnt_le (a l h n : Nat) : av_cnt a l h n ≤ n := by
  induction n with
  | zero => exact Nat.le_refl 0
  | succ n ih =>
    show (if av_m a l h n then av_cnt a l h n + 1 else av_cnt a l h n) ≤ n + 1
    split <;> omega
def av_mx (a l h : Nat) : Nat → Int32
  | 0 => -100
  | n + 1 => if av_m a l h n then (if nI (av_v n a) - 0 ≤ av_mx a l h n then av_mx a l h n else nI (av_v n a) - 0) else av_mx a l h n
theorem av_mx_pt : ∀ a, a < 3 → ∀ k, k < 8 → av_mx a k k 512 = nI k := by decide +kernel
theorem av_mx_any : ∀ a, a < 3 → av_mx a 0 7 512 = 7 := by decide +kernel
end
section
variable {c lv li w : Int32} {a1 a2 a3 a4 a5 a6 : Nat → Int32} {a7 : Nat → Int64} {a8 a9 a10 a11 : Nat → Int32} {a12 a13 : Nat → Int64} {a14 a15 a16 a17 : Nat → Int32}
variable {post : St2 → Prop}
theorem av_filled {post : Int32 → Prop} {q p : Nat} (hq : q < 4) (hp : p < 21) (h : a6 p = av_b q) (H : post 1) : wpX_isFilled post (c, lv, li, w, a1, a2, a3, a4, a5, a6, a7, a8, a9, a10, a11, a12, a13, a14, a15, a16, a17) (nI q) (nI p) := by
  refine And.intro (pk_in p 21 hp) (br_f ?_ H)
  rw [nI_clamp (by omega), h]
  exact av_b_set q hq
theorem av_unfilled {post : Int32 → Prop} {q p : Nat} (hq : q < 4) (hp : p < 21) (h : a6 p = 0) (H : post 0) : wpX_isFilled post (c, lv, li, w, a1, a2, a3, a4, a5, a6, a7, a8, a9, a10, a11, a12, a13, a14, a15, a16, a17) (nI q) (nI p) := by
  refine And.intro (pk_in p 21 hp) (br_t ?_ H)
  rw [nI_clamp (by omega), h]
  exact av_b_un q hq
theorem av_change (H : ∀ s, s = av_fl a5 (fun _ => 0) 0 4 → post (c, lv, li, w, a1, a2, a3, a4, s, a6, a7, a8, a9, a10, a11, a12, a13, a14, a15, a16, a17)) : wpX_change post (c, lv, li, w, a1, a2, a3, a4, a5, a6, a7, a8, a9, a10, a11, a12, a13, a14, a15, a16, a17) :=
  pk_loop (fun n i s => wX_change_2 post c lv li w n (nI i) a1 a2 a3 a4 s a6 a7 a8 a9 a10 a11 a12 a13 a14 a15 a16 a17) (fun i s => s = av_fl a5 (fun _ => 0) 0 i) 4 0 a5 (by omega) av_fl0.symm
    (fun n s h => pk_le 4 4 (fun _ => H s h) (fun z => absurd z (by omega)))
    (fun n i s hi h hw => pk_le 4 i (fun z => absurd z (by omega)) (fun _ => ⟨pk_in i 4 hi, nm_e (nm_r (nI_1 i) (hw _ (av_st h (av_cl0 hi) rfl)))⟩))
/-! begin -/
theorem av_bg74 (H : ∀ s, s = av_fl a17 (fun _ => 0) 0 16 → post (c, lv, li, w, a1, a2, a3, a4, a5, a6, a7, a8, a9, a10, a11, a12, a13, a14, a15, a16, s)) : ∃ n, wX_begin_74 post c lv li w n 0 a1 a2 a3 a4 a5 a6 a7 a8 a9 a10 a11 a12 a13 a14 a15 a16 a17 :=
  pk_loop (fun n i s => wX_begin_74 post c lv li w n (nI i) a1 a2 a3 a4 a5 a6 a7 a8 a9 a10 a11 a12 a13 a14 a15 a16 s) (fun i s => s = av_fl a17 (fun _ => 0) 0 i) 16 0 a17 (by omega) av_fl0.symm
    (fun n s h => pk_le 16 16 (fun _ => H s h) (fun z => absurd z (by omega)))
    (fun n i s hi h hw => pk_le 16 i (fun z => absurd z (by omega)) (fun _ => ⟨pk_in i 16 hi, nm_e (nm_r (nI_1 i) (hw _ (av_st h (av_cl0 hi) rfl)))⟩))
theorem av_bg40 (H : ∀ s14 s15 s16 s17, s14 = av_fl a14 (fun _ => 1) 0 3 → s15 = av_fl a15 (fun _ => 0) 0 3 → s16 = av_fl a16 (fun _ => 0) 0 3 → s17 = av_fl a17 (fun _ => 0) 0 16 → post (c, lv, li, w, a1, a2, a3, a4, a5, a6, a7, a8, a9, a10, a11, a12, a13, s14, s15, s16, s17)) : ∃ n, wX_begin_40 post c lv li w n 0 a1 a2 a3 a4 a5 a6 a7 a8 a9 a10 a11 a12 a13 a14 a15 a16 a17 :=
  pk_loop (fun n i (s : (Nat → Int32) × (Nat → Int32) × (Nat → Int32)) => wX_begin_40 post c lv li w n (nI i) a1 a2 a3 a4 a5 a6 a7 a8 a9 a10 a11 a12 a13 s.1 s.2.1 s.2.2 a17) (fun i s => s.1 = av_fl a14 (fun _ => 1) 0 i ∧ s.2.1 = av_fl a15 (fun _ => 0) 0 i ∧ s.2.2 = av_fl a16 (fun _ => 0) 0 i) 3 0 (a14, a15, a16) (by omega) ⟨av_fl0.symm, av_fl0.symm, av_fl0.symm⟩
    (fun n s h => pk_le 3 3 (fun _ => av_bg74 (fun t ht => H s.1 s.2.1 s.2.2 t h.1 h.2.1 h.2.2 ht)) (fun z => absurd z (by omega)))
    (fun n i s hi h hw => pk_le 3 i (fun z => absurd z (by omega)) (fun _ => ⟨pk_in i 3 hi, nm_e ⟨pk_in i 3 hi, nm_e ⟨pk_in i 3 hi, nm_e (nm_r (nI_1 i) (hw (_, _, _) ⟨av_st h.1 (av_cl0 hi) rfl, av_st h.2.1 (av_cl0 hi) rfl, av_st h.2.2 (av_cl0 hi) rfl⟩))⟩⟩⟩))
theorem av_bg11 (H : ∀ s12 s14 s15 s16 s17, s12 = av_fl a12 av_w0 0 8 → s14 = av_fl a14 (fun _ => 1) 0 3 → s15 = av_fl a15 (fun _ => 0) 0 3 → s16 = av_fl a16 (fun _ => 0) 0 3 → s17 = av_fl a17 (fun _ => 0) 0 16 → post (c, lv, li, w, a1, a2, a3, a4, a5, a6, a7, a8, a9, a10, a11, s12, a13, s14, s15, s16, s17)) : ∃ n, wX_begin_11 post c lv li w n 0 a1 a2 a3 a4 a5 a6 a7 a8 a9 a10 a11 a12 a13 a14 a15 a16 a17 :=
  pk_loop (fun n i s => wX_begin_11 post c lv li w n (nI i) a1 a2 a3 a4 a5 a6 a7 a8 a9 a10 a11 s a13 a14 a15 a16 a17) (fun i s => s = av_fl a12 av_w0 0 i) 8 0 a12 (by omega) av_fl0.symm
    (fun n s h => pk_le 8 8 (fun _ => av_bg40 (fun s14 s15 s16 s17 h14 h15 h16 h17 => H s s14 s15 s16 s17 h h14 h15 h16 h17)) (fun z => absurd z (by omega)))
    (fun n i s hi h hw => pk_le 8 i (fun z => absurd z (by omega)) (fun _ => pk_eq i 0
      (fun z => ⟨pk_in i 8 hi, nm_e (nm_r (nI_1 i) (hw _ (av_stL h (av_cl0 hi) (if_pos z).symm)))⟩)
      (fun z => ⟨pk_in i 8 hi, nm_e (nm_r (nI_1 i) (hw _ (av_stL h (av_cl0 hi) (if_neg z).symm)))⟩)))
/-! what 'now' and a place hold -/
def av_N0 (a12 : Nat → Int64) (a l h : Nat) : Prop := ∀ s, s < 512 → av_bt (a12 (s / 64)) (s % 64) = av_m a l h s
def av_N1 (a14 : Nat → Int32) (a l h : Nat) : Prop := ∀ v, v < 3 → a14 v = av_S (av_lo a l v) (av_lo a h v)
def av_N2 (a15 a16 : Nat → Int32) (a l h : Nat) : Prop := ∀ v, v < 3 → a15 v = nI (av_lo a l v) ∧ a16 v = nI (av_lo a h v)
def av_N3 (a17 : Nat → Int32) (a l h : Nat) : Prop := ∀ x, x < 4 → ∀ y, y < 4 → a17 (4 * x + y) = av_B a l h x y
def av_N (q : Nat) (a12 : Nat → Int64) (a14 a15 a16 a17 : Nat → Int32) (a l h : Nat) : Prop := (q = 0 → av_N0 a12 a l h) ∧ (q = 1 → av_N1 a14 a l h) ∧ (q = 2 → av_N2 a15 a16 a l h) ∧ (q = 3 → av_N3 a17 a l h)
/-- the place that begins at 8 p, 3 p, 16 p -/
def av_P (q p : Nat) (a7 : Nat → Int64) (a8 a9 a10 a11 : Nat → Int32) (a l h : Nat) : Prop := av_N q (fun k => a7 (8 * p + k)) (fun k => a8 (3 * p + k)) (fun k => a9 (3 * p + k)) (fun k => a10 (3 * p + k)) (fun k => a11 (16 * p + k)) a l h
theorem av_lo0 (a v : Nat) : av_lo a 0 v = 0 := by
  unfold av_lo
  split <;> rfl
theorem av_B0 (a x y : Nat) : av_B a 0 0 x y = 0 := by
  unfold av_B
  rw [av_lo0, av_lo0]
  split <;> rfl
theorem av_N_z {q a b : Nat} {a12 : Nat → Int64} {a14 a15 a16 a17 : Nat → Int32} (h : av_N q a12 a14 a15 a16 a17 a 0 0) : av_N q a12 a14 a15 a16 a17 b 0 0 := by
  refine ⟨fun e s hs => ?_, fun e v hv => ?_, fun e v hv => ?_, fun e x hx y hy => ?_⟩
  · rw [h.1 e s hs, av_m_z]
  · rw [h.2.1 e v hv, av_lo0, av_lo0]
  · rw [(h.2.2.1 e v hv).1, (h.2.2.1 e v hv).2, av_lo0, av_lo0]
    exact ⟨rfl, rfl⟩
  · rw [h.2.2.2 e x hx y hy, av_B0, av_B0]
theorem av_P_z {q p a b : Nat} (h : av_P q p a7 a8 a9 a10 a11 a 0 0) : av_P q p a7 a8 a9 a10 a11 b 0 0 := av_N_z h
theorem av_begin {q : Nat} (hq : q < 4) (H : ∀ s12 s14 s15 s16 s17, av_N q s12 s14 s15 s16 s17 0 0 0 → post (c, lv, 1, w, a1, a2, a3, a4, a5, a6, a7, a8, a9, a10, a11, s12, a13, s14, s15, s16, s17)) : wpX_begin post (c, lv, li, w, a1, a2, a3, a4, a5, a6, a7, a8, a9, a10, a11, a12, a13, a14, a15, a16, a17) (nI q) := by
  have K : ∀ s12 s14 s15 s16 s17, (q = 0 → s12 = av_fl a12 av_w0 0 8) → s14 = av_fl a14 (fun _ => 1) 0 3 → s15 = av_fl a15 (fun _ => 0) 0 3 → s16 = av_fl a16 (fun _ => 0) 0 3 → s17 = av_fl a17 (fun _ => 0) 0 16 → av_N q s12 s14 s15 s16 s17 0 0 0 := by
    intro s12 s14 s15 s16 s17 h12 h14 h15 h16 h17
    refine ⟨fun e s hs => ?_, fun e v hv => ?_, fun e v hv => ?_, fun e x hx y hy => ?_⟩
    · rw [h12 e, av_fl_z (by omega)]
      exact av_w0_m s hs
    · rw [h14, av_fl_z hv, av_lo0]
      rfl
    · rw [h15, h16, av_fl_z hv, av_fl_z hv, av_lo0]
      exact ⟨rfl, rfl⟩
    · rw [h17, av_fl_z (by omega), av_B0]
  exact pk_eq q 0
    (fun z => av_bg11 (fun s12 s14 s15 s16 s17 h12 h14 h15 h16 h17 => H _ _ _ _ _ (K s12 s14 s15 s16 s17 (fun _ => h12) h14 h15 h16 h17)))
    (fun z => av_bg40 (fun s14 s15 s16 s17 h14 h15 h16 h17 => H _ _ _ _ _ (K a12 s14 s15 s16 s17 (fun e => absurd e z) h14 h15 h16 h17)))
end
section
variable {c lv li w : Int32} {a1 a2 a3 a4 a5 a6 : Nat → Int32} {a7 : Nat → Int64} {a8 a9 a10 a11 : Nat → Int32} {a12 a13 : Nat → Int64} {a14 a15 a16 a17 : Nat → Int32}
variable {post : St2 → Prop}
theorem av_cf89n {q p : Nat} (hq : q < 3) (H : post (c, lv, li, w, a1, a2, a3, a4, a5, a6, a7, a8, a9, a10, a11, a12, a13, a14, a15, a16, a17)) : ∃ n, wX_clearForm_89 post (nI q) (nI p) c lv li w n 0 a1 a2 a3 a4 a5 a6 a7 a8 a9 a10 a11 a12 a13 a14 a15 a16 a17 :=
  ⟨1, pk_le 16 0 (fun z => absurd z (by omega)) (fun _ => pk_eq q 3 (fun z => absurd z (by omega)) (fun _ => H))⟩
theorem av_cf89 {p : Nat} (hp : p ≤ 1) (H : ∀ s, s = av_fl a11 (fun _ => -20) (16 * p) 16 → post (c, lv, li, w, a1, a2, a3, a4, a5, a6, a7, a8, a9, a10, s, a12, a13, a14, a15, a16, a17)) : ∃ n, wX_clearForm_89 post (nI 3) (nI p) c lv li w n 0 a1 a2 a3 a4 a5 a6 a7 a8 a9 a10 a11 a12 a13 a14 a15 a16 a17 :=
  pk_loop (fun n i s => wX_clearForm_89 post (nI 3) (nI p) c lv li w n (nI i) a1 a2 a3 a4 a5 a6 a7 a8 a9 a10 s a12 a13 a14 a15 a16 a17) (fun i s => s = av_fl a11 (fun _ => -20) (16 * p) i) 16 0 a11 (by omega) av_fl0.symm
    (fun n s h => pk_le 16 16 (fun _ => H s h) (fun z => absurd z (by omega)))
    (fun n i s hi h hw => pk_le 16 i (fun z => absurd z (by omega)) (fun _ => pk_eq 3 3 (fun _ => ⟨pk_in (16 * p + i) 336 (by omega) (av_ix (M := 16) 16 p i), nm_e (nm_r (nI_1 i) (hw _ (av_st h (av_clo (M := 16) 16 p i (by omega)) rfl)))⟩) (fun z => absurd rfl z)))
/-- the middle loop does nothing in the ways 0 and 3 -/
theorem av_cf32n {q p : Nat} (hq : q = 0 ∨ q = 3) (H : ∃ n, wX_clearForm_89 post (nI q) (nI p) c lv li w n 0 a1 a2 a3 a4 a5 a6 a7 a8 a9 a10 a11 a12 a13 a14 a15 a16 a17) : ∃ n, wX_clearForm_32 post (nI q) (nI p) c lv li w n 0 a1 a2 a3 a4 a5 a6 a7 a8 a9 a10 a11 a12 a13 a14 a15 a16 a17 :=
  pk_loop (σ := Unit) (fun n i _ => wX_clearForm_32 post (nI q) (nI p) c lv li w n (nI i) a1 a2 a3 a4 a5 a6 a7 a8 a9 a10 a11 a12 a13 a14 a15 a16 a17) (fun _ _ => True) 3 0 () (by omega) trivial
    (fun n _ _ => pk_le 3 3 (fun _ => H) (fun z => absurd z (by omega)))
    (fun n i _ hi _ hw => pk_le 3 i (fun z => absurd z (by omega)) (fun _ => pk_eq q 1 (fun z => absurd z (by omega)) (fun _ => pk_eq q 2 (fun z => absurd z (by omega)) (fun _ => nm_r (nI_1 i) (hw () trivial)))))
theorem av_cf32a {p : Nat} (hp : p ≤ 1) (H : ∀ s, s = av_fl a8 (fun _ => 0) (3 * p) 3 → post (c, lv, li, w, a1, a2, a3, a4, a5, a6, a7, s, a9, a10, a11, a12, a13, a14, a15, a16, a17)) : ∃ n, wX_clearForm_32 post (nI 1) (nI p) c lv li w n 0 a1 a2 a3 a4 a5 a6 a7 a8 a9 a10 a11 a12 a13 a14 a15 a16 a17 :=
  pk_loop (fun n i s => wX_clearForm_32 post (nI 1) (nI p) c lv li w n (nI i) a1 a2 a3 a4 a5 a6 a7 s a9 a10 a11 a12 a13 a14 a15 a16 a17) (fun i s => s = av_fl a8 (fun _ => 0) (3 * p) i) 3 0 a8 (by omega) av_fl0.symm
    (fun n s h => pk_le 3 3 (fun _ => av_cf89n (by omega) (H s h)) (fun z => absurd z (by omega)))
    (fun n i s hi h hw => pk_le 3 i (fun z => absurd z (by omega)) (fun _ => pk_eq 1 1 (fun _ => ⟨pk_in (3 * p + i) 63 (by omega) (av_ix (M := 3) 3 p i), nm_e (pk_eq 1 2 (fun z => absurd z (by omega)) (fun _ => nm_r (nI_1 i) (hw _ (av_st h (av_clo (M := 3) 3 p i (by omega)) rfl))))⟩) (fun z => absurd rfl z)))
theorem av_cf32b {p : Nat} (hp : p ≤ 1) (H : ∀ s t, s = av_fl a9 (fun _ => 7) (3 * p) 3 → t = av_fl a10 (fun _ => 0) (3 * p) 3 → post (c, lv, li, w, a1, a2, a3, a4, a5, a6, a7, a8, s, t, a11, a12, a13, a14, a15, a16, a17)) : ∃ n, wX_clearForm_32 post (nI 2) (nI p) c lv li w n 0 a1 a2 a3 a4 a5 a6 a7 a8 a9 a10 a11 a12 a13 a14 a15 a16 a17 :=
  pk_loop (fun n i (s : (Nat → Int32) × (Nat → Int32)) => wX_clearForm_32 post (nI 2) (nI p) c lv li w n (nI i) a1 a2 a3 a4 a5 a6 a7 a8 s.1 s.2 a11 a12 a13 a14 a15 a16 a17) (fun i s => s.1 = av_fl a9 (fun _ => 7) (3 * p) i ∧ s.2 = av_fl a10 (fun _ => 0) (3 * p) i) 3 0 (a9, a10) (by omega) ⟨av_fl0.symm, av_fl0.symm⟩
    (fun n s h => pk_le 3 3 (fun _ => av_cf89n (by omega) (H s.1 s.2 h.1 h.2)) (fun z => absurd z (by omega)))
    (fun n i s hi h hw => pk_le 3 i (fun z => absurd z (by omega)) (fun _ => pk_eq 2 1 (fun z => absurd z (by omega)) (fun _ => pk_eq 2 2 (fun _ => ⟨pk_in (3 * p + i) 63 (by omega) (av_ix (M := 3) 3 p i), nm_e ⟨pk_in (3 * p + i) 63 (by omega) (av_ix (M := 3) 3 p i), nm_e (nm_r (nI_1 i) (hw (_, _) ⟨av_st h.1 (av_clo (M := 3) 3 p i (by omega)) rfl, av_st h.2 (av_clo (M := 3) 3 p i (by omega)) rfl⟩))⟩⟩) (fun z => absurd rfl z))))
theorem av_cf0 {p : Nat} (hp : p ≤ 1) (H : ∀ s, s = av_fl a7 (fun _ => 0) (8 * p) 8 → post (c, lv, li, w, a1, a2, a3, a4, a5, a6, s, a8, a9, a10, a11, a12, a13, a14, a15, a16, a17)) : wpX_clearForm post (c, lv, li, w, a1, a2, a3, a4, a5, a6, a7, a8, a9, a10, a11, a12, a13, a14, a15, a16, a17) (nI 0) (nI p) :=
  pk_loop (fun n i s => wX_clearForm_2 post (nI 0) (nI p) c lv li w n (nI i) a1 a2 a3 a4 a5 a6 s a8 a9 a10 a11 a12 a13 a14 a15 a16 a17) (fun i s => s = av_fl a7 (fun _ => 0) (8 * p) i) 8 0 a7 (by omega) av_fl0.symm
    (fun n s h => pk_le 8 8 (fun _ => av_cf32n (Or.inl rfl) (av_cf89n (by omega) (H s h))) (fun z => absurd z (by omega)))
    (fun n i s hi h hw => pk_le 8 i (fun z => absurd z (by omega)) (fun _ => pk_eq 0 0 (fun _ => ⟨pk_in (8 * p + i) 168 (by omega) (av_ix (M := 8) 8 p i), nm_e (nm_r (nI_1 i) (hw _ (av_stL h (av_clo (M := 8) 8 p i (by omega)) rfl)))⟩) (fun z => absurd rfl z)))
theorem av_cfn {q p : Nat} (hq : 1 ≤ q) (hq2 : q < 4) (H : ∃ n, wX_clearForm_32 post (nI q) (nI p) c lv li w n 0 a1 a2 a3 a4 a5 a6 a7 a8 a9 a10 a11 a12 a13 a14 a15 a16 a17) : wpX_clearForm post (c, lv, li, w, a1, a2, a3, a4, a5, a6, a7, a8, a9, a10, a11, a12, a13, a14, a15, a16, a17) (nI q) (nI p) :=
  Exists.intro 1 (pk_le 8 0 (fun z => absurd z (by omega)) (fun _ => pk_eq q 0 (fun z => absurd z (by omega)) (fun _ => H)))
theorem av_cf1 {p : Nat} (hp : p ≤ 1) (H : ∀ s, s = av_fl a8 (fun _ => 0) (3 * p) 3 → post (c, lv, li, w, a1, a2, a3, a4, a5, a6, a7, s, a9, a10, a11, a12, a13, a14, a15, a16, a17)) : wpX_clearForm post (c, lv, li, w, a1, a2, a3, a4, a5, a6, a7, a8, a9, a10, a11, a12, a13, a14, a15, a16, a17) (nI 1) (nI p) := av_cfn (by omega) (by omega) (av_cf32a hp H)
theorem av_cf2 {p : Nat} (hp : p ≤ 1) (H : ∀ s t, s = av_fl a9 (fun _ => 7) (3 * p) 3 → t = av_fl a10 (fun _ => 0) (3 * p) 3 → post (c, lv, li, w, a1, a2, a3, a4, a5, a6, a7, a8, s, t, a11, a12, a13, a14, a15, a16, a17)) : wpX_clearForm post (c, lv, li, w, a1, a2, a3, a4, a5, a6, a7, a8, a9, a10, a11, a12, a13, a14, a15, a16, a17) (nI 2) (nI p) := av_cfn (by omega) (by omega) (av_cf32b hp H)
theorem av_cf3 {p : Nat} (hp : p ≤ 1) (H : ∀ s, s = av_fl a11 (fun _ => -20) (16 * p) 16 → post (c, lv, li, w, a1, a2, a3, a4, a5, a6, a7, a8, a9, a10, s, a12, a13, a14, a15, a16, a17)) : wpX_clearForm post (c, lv, li, w, a1, a2, a3, a4, a5, a6, a7, a8, a9, a10, a11, a12, a13, a14, a15, a16, a17) (nI 3) (nI p) := av_cfn (by omega) (by omega) (av_cf32n (Or.inr rfl) (av_cf89 hp H))
end
section
variable {c lv li w : Int32} {a1 a2 a3 a4 a5 a6 : Nat → Int32} {a7 : Nat → Int64} {a8 a9 a10 a11 : Nat → Int32} {a12 a13 : Nat → Int64} {a14 a15 a16 a17 : Nat → Int32}
/-! joinX over a cleared place: it becomes what 'now' is; over an equal place: nothing -/
theorem av_js {post : Int32 → St2 → Prop} {p : Nat} (hp : p ≤ 1) (hz : ∀ k, k < 8 → a7 (8 * p + k) = 0) (H : ∀ r s, s = av_fl a7 a12 (8 * p) 8 → post r (c, lv, li, w, a1, a2, a3, a4, a5, a6, s, a8, a9, a10, a11, a12, a13, a14, a15, a16, a17)) : wpX_joinStates post (c, lv, li, w, a1, a2, a3, a4, a5, a6, a7, a8, a9, a10, a11, a12, a13, a14, a15, a16, a17) (nI p) := by
  refine pk_loop (fun n i (s : Int32 × (Nat → Int64)) => wX_joinStates_4 post (nI p) c lv li w n s.1 (nI i) a1 a2 a3 a4 a5 a6 s.2 a8 a9 a10 a11 a12 a13 a14 a15 a16 a17) (fun i s => (s.1 = 0 ∨ s.1 = 1) ∧ s.2 = av_fl a7 a12 (8 * p) i) 8 0 (0, a7) (by omega) ⟨Or.inl rfl, av_fl0.symm⟩
    (fun n s h => pk_le 8 8 (fun _ => ⟨av_nb h.1, H s.1 s.2 h.2⟩) (fun z => absurd z (by omega))) ?_
  intro n i s hi h hw
  refine pk_le 8 i (fun z => absurd z (by omega)) (fun _ => ⟨pk_in i 8 hi, pk_in (8 * p + i) 168 (by omega) (av_ix (M := 8) 8 p i), ?_⟩)
  rw [av_clo (M := 8) 8 p i (by omega), nI_clamp (show i < 2 ^ 31 by omega), av_fl_read h.2, hz i hi, av_anL, av_orL]
  refine br_c (fun z => nm_r (nI_1 i) (hw (_, _) ⟨h.1, av_flk h.2 (by rw [hz i hi, z])⟩)) (fun z => ⟨pk_in (8 * p + i) 168 (by omega) (av_ix (M := 8) 8 p i), pk_in i 8 hi, pk_in (8 * p + i) 168 (by omega) (av_ix (M := 8) 8 p i), nm_e (nm_r (nI_1 i) (hw (_, _) ⟨Or.inr rfl, av_stL h.2 rfl rfl⟩))⟩)
theorem av_jsS {post : Int32 → St2 → Prop} {p : Nat} (hp : p ≤ 1) (hz : ∀ k, k < 8 → a7 (8 * p + k) = a12 k) (H : post 0 (c, lv, li, w, a1, a2, a3, a4, a5, a6, a7, a8, a9, a10, a11, a12, a13, a14, a15, a16, a17)) : wpX_joinStates post (c, lv, li, w, a1, a2, a3, a4, a5, a6, a7, a8, a9, a10, a11, a12, a13, a14, a15, a16, a17) (nI p) := by
  refine pk_loop (σ := Unit) (fun n i _ => wX_joinStates_4 post (nI p) c lv li w n 0 (nI i) a1 a2 a3 a4 a5 a6 a7 a8 a9 a10 a11 a12 a13 a14 a15 a16 a17) (fun _ _ => True) 8 0 () (by omega) trivial
    (fun n _ _ => pk_le 8 8 (fun _ => ⟨av_nb (Or.inl rfl), H⟩) (fun z => absurd z (by omega))) ?_
  intro n i _ hi _ hw
  refine pk_le 8 i (fun z => absurd z (by omega)) (fun _ => ⟨pk_in i 8 hi, pk_in (8 * p + i) 168 (by omega) (av_ix (M := 8) 8 p i), br_t ?_ (nm_r (nI_1 i) (hw () trivial))⟩)
  rw [av_clo (M := 8) 8 p i (by omega), nI_clamp (show i < 2 ^ 31 by omega), hz i hi]
  exact av_selfL _
theorem av_jt {post : Int32 → St2 → Prop} {p : Nat} (hp : p ≤ 1) (hz : ∀ k, k < 3 → a8 (3 * p + k) = 0) (hf : ∀ k, k < 3 → (a14 k).toInt16.toInt32 = a14 k) (H : ∀ r s, s = av_fl a8 a14 (3 * p) 3 → post r (c, lv, li, w, a1, a2, a3, a4, a5, a6, a7, s, a9, a10, a11, a12, a13, a14, a15, a16, a17)) : wpX_joinSets post (c, lv, li, w, a1, a2, a3, a4, a5, a6, a7, a8, a9, a10, a11, a12, a13, a14, a15, a16, a17) (nI p) := by
  refine pk_loop (fun n i (s : Int32 × (Nat → Int32)) => wX_joinSets_4 post (nI p) c lv li w n s.1 (nI i) a1 a2 a3 a4 a5 a6 a7 s.2 a9 a10 a11 a12 a13 a14 a15 a16 a17) (fun i s => (s.1 = 0 ∨ s.1 = 1) ∧ s.2 = av_fl a8 a14 (3 * p) i) 3 0 (0, a8) (by omega) ⟨Or.inl rfl, av_fl0.symm⟩
    (fun n s h => pk_le 3 3 (fun _ => ⟨av_nb h.1, H s.1 s.2 h.2⟩) (fun z => absurd z (by omega))) ?_
  intro n i s hi h hw
  refine pk_le 3 i (fun z => absurd z (by omega)) (fun _ => ⟨pk_in i 3 hi, pk_in (3 * p + i) 63 (by omega) (av_ix (M := 3) 3 p i), ?_⟩)
  rw [av_clo (M := 3) 3 p i (by omega), nI_clamp (show i < 2 ^ 31 by omega), av_fl_read h.2, hz i hi, av_anI, av_orI, hf i hi]
  refine br_c (fun z => nm_r (nI_1 i) (hw (_, _) ⟨h.1, av_flk h.2 (by rw [hz i hi, z])⟩)) (fun z => ⟨pk_in (3 * p + i) 63 (by omega) (av_ix (M := 3) 3 p i), pk_in i 3 hi, pk_in (3 * p + i) 63 (by omega) (av_ix (M := 3) 3 p i), nm_e (nm_r (nI_1 i) (hw (_, _) ⟨Or.inr rfl, av_st h.2 rfl rfl⟩))⟩)
theorem av_jtS {post : Int32 → St2 → Prop} {p : Nat} (hp : p ≤ 1) (hz : ∀ k, k < 3 → a8 (3 * p + k) = a14 k) (H : post 0 (c, lv, li, w, a1, a2, a3, a4, a5, a6, a7, a8, a9, a10, a11, a12, a13, a14, a15, a16, a17)) : wpX_joinSets post (c, lv, li, w, a1, a2, a3, a4, a5, a6, a7, a8, a9, a10, a11, a12, a13, a14, a15, a16, a17) (nI p) := by
  refine pk_loop (σ := Unit) (fun n i _ => wX_joinSets_4 post (nI p) c lv li w n 0 (nI i) a1 a2 a3 a4 a5 a6 a7 a8 a9 a10 a11 a12 a13 a14 a15 a16 a17) (fun _ _ => True) 3 0 () (by omega) trivial
    (fun n _ _ => pk_le 3 3 (fun _ => ⟨av_nb (Or.inl rfl), H⟩) (fun z => absurd z (by omega))) ?_
  intro n i _ hi _ hw
  refine pk_le 3 i (fun z => absurd z (by omega)) (fun _ => ⟨pk_in i 3 hi, pk_in (3 * p + i) 63 (by omega) (av_ix (M := 3) 3 p i), br_t ?_ (nm_r (nI_1 i) (hw () trivial))⟩)
  rw [av_clo (M := 3) 3 p i (by omega), nI_clamp (show i < 2 ^ 31 by omega), hz i hi]
  exact av_selfI _
theorem av_jr {post : Int32 → St2 → Prop} {p : Nat} (hp : p ≤ 1) (hz : ∀ k, k < 3 → a9 (3 * p + k) = 7 ∧ a10 (3 * p + k) = 0) (hf : ∀ k, k < 3 → (∃ x, x < 8 ∧ a15 k = nI x) ∧ ∃ x, x < 8 ∧ a16 k = nI x) (H : ∀ r s t, s = av_fl a9 a15 (3 * p) 3 → t = av_fl a10 a16 (3 * p) 3 → post r (c, lv, li, w, a1, a2, a3, a4, a5, a6, a7, a8, s, t, a11, a12, a13, a14, a15, a16, a17)) : wpX_joinRanges post (c, lv, li, w, a1, a2, a3, a4, a5, a6, a7, a8, a9, a10, a11, a12, a13, a14, a15, a16, a17) (nI p) := by
  refine pk_loop (fun n i (s : Int32 × (Nat → Int32) × (Nat → Int32)) => wX_joinRanges_4 post (nI p) c lv li w n s.1 (nI i) a1 a2 a3 a4 a5 a6 a7 a8 s.2.1 s.2.2 a11 a12 a13 a14 a15 a16 a17) (fun i s => (s.1 = 0 ∨ s.1 = 1) ∧ s.2.1 = av_fl a9 a15 (3 * p) i ∧ s.2.2 = av_fl a10 a16 (3 * p) i) 3 0 (0, a9, a10) (by omega) ⟨Or.inl rfl, av_fl0.symm, av_fl0.symm⟩
    (fun n s h => pk_le 3 3 (fun _ => ⟨av_nb h.1, H s.1 s.2.1 s.2.2 h.2.1 h.2.2⟩) (fun z => absurd z (by omega))) ?_
  intro n i s hi h hw
  obtain ⟨⟨x, hx, ex⟩, y, hy, ey⟩ := hf i hi
  have K : ∀ (r : Int32) (s9 : Nat → Int32), (r = 0 ∨ r = 1) → s9 = av_fl a9 a15 (3 * p) (i + 1) → wX_joinRanges_46 post (wX_joinRanges_4 post (nI p) c lv li w n) (nI p) r (nI i) c lv li w a1 a2 a3 a4 a5 a6 a7 a8 s9 s.2.2 a11 a12 a13 a14 a15 a16 a17 := by
    intro r s9 hr h9
    refine And.intro (pk_in i 3 hi) (And.intro (pk_in (3 * p + i) 63 (by omega) (av_ix (M := 3) 3 p i)) ?_)
    rw [av_clo (M := 3) 3 p i (by omega), nI_clamp (show i < 2 ^ 31 by omega), av_fl_read h.2.2, (hz i hi).2, ey]
    refine pk_le y 0 (fun z => nm_r (nI_1 i) (hw (_, _, _) ⟨hr, h9, av_flk h.2.2 ?_⟩)) (fun z => ⟨pk_in i 3 hi, pk_in (3 * p + i) 63 (by omega) (av_ix (M := 3) 3 p i), nm_e (nm_r (nI_1 i) (hw (_, _, _) ⟨Or.inr rfl, h9, av_st h.2.2 rfl ?_⟩))⟩)
    · rw [(hz i hi).2, ey, show y = 0 by omega]
      rfl
    · rw [ey]
      exact av_nar8 y hy
  refine pk_le 3 i (fun z => absurd z (by omega)) (fun _ => ⟨pk_in i 3 hi, pk_in (3 * p + i) 63 (by omega) (av_ix (M := 3) 3 p i), ?_⟩)
  rw [av_clo (M := 3) 3 p i (by omega), nI_clamp (show i < 2 ^ 31 by omega), av_fl_read h.2.1, (hz i hi).1, ex]
  refine pk_le 7 x (fun z => K _ _ h.1 (av_flk h.2.1 ?_)) (fun z => ⟨pk_in i 3 hi, pk_in (3 * p + i) 63 (by omega) (av_ix (M := 3) 3 p i), nm_e (K _ _ (Or.inr rfl) (av_st h.2.1 rfl ?_))⟩)
  · rw [(hz i hi).1, ex, show x = 7 by omega]
    rfl
  · rw [ex]
    exact av_nar8 x hx
theorem av_jrS {post : Int32 → St2 → Prop} {p : Nat} (hp : p ≤ 1) (hz : ∀ k, k < 3 → a9 (3 * p + k) = a15 k ∧ a10 (3 * p + k) = a16 k) (H : post 0 (c, lv, li, w, a1, a2, a3, a4, a5, a6, a7, a8, a9, a10, a11, a12, a13, a14, a15, a16, a17)) : wpX_joinRanges post (c, lv, li, w, a1, a2, a3, a4, a5, a6, a7, a8, a9, a10, a11, a12, a13, a14, a15, a16, a17) (nI p) := by
  refine pk_loop (σ := Unit) (fun n i _ => wX_joinRanges_4 post (nI p) c lv li w n 0 (nI i) a1 a2 a3 a4 a5 a6 a7 a8 a9 a10 a11 a12 a13 a14 a15 a16 a17) (fun _ _ => True) 3 0 () (by omega) trivial
    (fun n _ _ => pk_le 3 3 (fun _ => ⟨av_nb (Or.inl rfl), H⟩) (fun z => absurd z (by omega))) ?_
  intro n i _ hi _ hw
  refine pk_le 3 i (fun z => absurd z (by omega)) (fun _ => ⟨pk_in i 3 hi, pk_in (3 * p + i) 63 (by omega) (av_ix (M := 3) 3 p i), br_t ?_ (And.intro (pk_in i 3 hi) (And.intro (pk_in (3 * p + i) 63 (by omega) (av_ix (M := 3) 3 p i)) (br_t ?_ (nm_r (nI_1 i) (hw () trivial)))))⟩)
  · rw [av_clo (M := 3) 3 p i (by omega), nI_clamp (show i < 2 ^ 31 by omega), (hz i hi).1]
    exact Int32.le_refl _
  · rw [av_clo (M := 3) 3 p i (by omega), nI_clamp (show i < 2 ^ 31 by omega), (hz i hi).2]
    exact Int32.le_refl _
theorem av_jb {post : Int32 → St2 → Prop} {p : Nat} (hp : p ≤ 1) (hz : ∀ k, k < 16 → a11 (16 * p + k) = -20) (hf : ∀ k, k < 16 → (-20 : Int32) < a17 k ∧ vp_nar .byte (a17 k) = a17 k) (H : ∀ r s, s = av_fl a11 a17 (16 * p) 16 → post r (c, lv, li, w, a1, a2, a3, a4, a5, a6, a7, a8, a9, a10, s, a12, a13, a14, a15, a16, a17)) : wpX_joinBounds post (c, lv, li, w, a1, a2, a3, a4, a5, a6, a7, a8, a9, a10, a11, a12, a13, a14, a15, a16, a17) (nI p) := by
  refine pk_loop (fun n i (s : Int32 × (Nat → Int32)) => wX_joinBounds_4 post (nI p) c lv li w n s.1 (nI i) a1 a2 a3 a4 a5 a6 a7 a8 a9 a10 s.2 a12 a13 a14 a15 a16 a17) (fun i s => (s.1 = 0 ∨ s.1 = 1) ∧ s.2 = av_fl a11 a17 (16 * p) i) 16 0 (0, a11) (by omega) ⟨Or.inl rfl, av_fl0.symm⟩
    (fun n s h => pk_le 16 16 (fun _ => ⟨av_nb h.1, H s.1 s.2 h.2⟩) (fun z => absurd z (by omega))) ?_
  intro n i s hi h hw
  refine pk_le 16 i (fun z => absurd z (by omega)) (fun _ => ⟨pk_in i 16 hi, pk_in (16 * p + i) 336 (by omega) (av_ix (M := 16) 16 p i), ?_⟩)
  rw [av_clo (M := 16) 16 p i (by omega), nI_clamp (show i < 2 ^ 31 by omega), av_fl_read h.2, hz i hi]
  exact br_t (hf i hi).1 ⟨pk_in i 16 hi, pk_in (16 * p + i) 336 (by omega) (av_ix (M := 16) 16 p i), nm_e (nm_r (nI_1 i) (hw (_, _) ⟨Or.inr rfl, av_st h.2 rfl (hf i hi).2⟩))⟩
theorem av_jbS {post : Int32 → St2 → Prop} {p : Nat} (hp : p ≤ 1) (hz : ∀ k, k < 16 → a11 (16 * p + k) = a17 k) (H : post 0 (c, lv, li, w, a1, a2, a3, a4, a5, a6, a7, a8, a9, a10, a11, a12, a13, a14, a15, a16, a17)) : wpX_joinBounds post (c, lv, li, w, a1, a2, a3, a4, a5, a6, a7, a8, a9, a10, a11, a12, a13, a14, a15, a16, a17) (nI p) := by
  refine pk_loop (σ := Unit) (fun n i _ => wX_joinBounds_4 post (nI p) c lv li w n 0 (nI i) a1 a2 a3 a4 a5 a6 a7 a8 a9 a10 a11 a12 a13 a14 a15 a16 a17) (fun _ _ => True) 16 0 () (by omega) trivial
    (fun n _ _ => pk_le 16 16 (fun _ => ⟨av_nb (Or.inl rfl), H⟩) (fun z => absurd z (by omega))) ?_
  intro n i _ hi _ hw
  refine pk_le 16 i (fun z => absurd z (by omega)) (fun _ => ⟨pk_in i 16 hi, pk_in (16 * p + i) 336 (by omega) (av_ix (M := 16) 16 p i), br_f ?_ (nm_r (nI_1 i) (hw () trivial))⟩)
  rw [av_clo (M := 16) 16 p i (by omega), nI_clamp (show i < 2 ^ 31 by omega), hz i hi]
  exact Int32.lt_irrefl
end
section
variable {c lv li w : Int32} {a1 a2 a3 a4 a5 a6 : Nat → Int32} {a7 : Nat → Int64} {a8 a9 a10 a11 : Nat → Int32} {a12 a13 : Nat → Int64} {a14 a15 a16 a17 : Nat → Int32}
variable {post : St2 → Prop}
theorem av_N_cg {q a l h : Nat} {b12 : Nat → Int64} {b14 b15 b16 b17 : Nat → Int32} (e12 : q = 0 → ∀ k, k < 8 → b12 k = a12 k) (e14 : q = 1 → ∀ k, k < 3 → b14 k = a14 k) (e15 : q = 2 → ∀ k, k < 3 → b15 k = a15 k ∧ b16 k = a16 k) (e17 : q = 3 → ∀ k, k < 16 → b17 k = a17 k) (hN : av_N q a12 a14 a15 a16 a17 a l h) : av_N q b12 b14 b15 b16 b17 a l h := by
  refine ⟨fun e s hs => ?_, fun e v hv => ?_, fun e v hv => ?_, fun e x hx y hy => ?_⟩
  · rw [e12 e _ (by omega)]
    exact hN.1 e s hs
  · rw [e14 e v hv]
    exact hN.2.1 e v hv
  · rw [(e15 e v hv).1, (e15 e v hv).2]
    exact hN.2.2.1 e v hv
  · rw [e17 e _ (by omega)]
    exact hN.2.2.2 e x hx y hy
theorem av_x {P : Prop} {a b : Nat} (h : a ≠ b) : a = b → P := fun z => absurd z h
theorem av_N1f {a l h : Nat} (hl : l < 8) (hh : h < 8) (hN : av_N1 a14 a l h) : ∀ k, k < 3 → (a14 k).toInt16.toInt32 = a14 k := by
  intro k hk
  rw [hN k hk]
  exact av_S_16 _ (av_lo_lt hl) _ (av_lo_lt hh)
theorem av_N2f {a l h : Nat} (hl : l < 8) (hh : h < 8) (hN : av_N2 a15 a16 a l h) : ∀ k, k < 3 → (∃ x, x < 8 ∧ a15 k = nI x) ∧ ∃ x, x < 8 ∧ a16 k = nI x :=
  fun k hk => ⟨⟨_, av_lo_lt hl, (hN k hk).1⟩, ⟨_, av_lo_lt hh, (hN k hk).2⟩⟩
theorem av_N3f {a l h : Nat} (hl : l < 8) (hh : h < 8) (hN : av_N3 a17 a l h) : ∀ k, k < 16 → (-20 : Int32) < a17 k ∧ vp_nar .byte (a17 k) = a17 k := by
  intro k hk
  have t := hN (k / 4) (by omega) (k % 4) (by omega)
  rw [show 4 * (k / 4) + k % 4 = k by omega] at t
  rw [t]
  exact av_B_ok hl hh
theorem av_join_new {q p a l h : Nat} (hq : q < 4) (hp : p ≤ 1) (hl : l < 8) (hh : h < 8) (h6 : a6 p = 0) (hN : av_N q a12 a14 a15 a16 a17 a l h)
    (H : ∀ s7 s8 s9 s10 s11, av_P q p s7 s8 s9 s10 s11 a l h → (∀ p' a' l' h', p' < p → av_P q p' a7 a8 a9 a10 a11 a' l' h' → av_P q p' s7 s8 s9 s10 s11 a' l' h') → post (c, lv, li, w ||| ((1 : Int32) <<< (nI p &&& 31)), a1, a2, a3, a4, a5, upd a6 p (av_b q), s7, s8, s9, s10, s11, a12, a13, a14, a15, a16, a17)) : wpX_join post (c, lv, li, w, a1, a2, a3, a4, a5, a6, a7, a8, a9, a10, a11, a12, a13, a14, a15, a16, a17) (nI q) (nI p) := by
  have e6 : upd a6 (nI p).toNatClampNeg ((a6 (nI p).toNatClampNeg ||| ((1 : Int32) <<< (nI q &&& 31))).toInt8.toInt32) = upd a6 p (av_b q) := by
    rw [nI_clamp (by omega), h6]
    exact congrArg (upd a6 p) (av_b_or q hq)
  unfold wpX_join
  dsimp only
  refine av_unfilled hq (by omega) h6 ?_
  refine br_t rfl ⟨pk_in p 21 (by omega), pk_in p 21 (by omega), nm_r e6 ?_⟩
  rcases (show q = 0 ∨ q = 1 ∨ q = 2 ∨ q = 3 by omega) with e | e | e | e
  · subst e
    refine av_cf0 hp (fun s hs => ?_)
    dsimp only
    refine pk_eq 0 0 (fun _ => ?_) (fun z => absurd rfl z)
    refine av_js hp (fun k hk => by rw [hs]; exact av_fl_in hk) (fun r t ht => ?_)
    have K := H t a8 a9 a10 a11 (av_N_cg (fun _ k hk => by rw [ht]; exact av_fl_in hk) (av_x (by decide)) (av_x (by decide)) (av_x (by decide)) hN)
      (fun p' a' l' h' hp' g => av_N_cg (fun _ k hk => by rw [ht, hs, av_fl_out (by omega), av_fl_out (by omega)]) (av_x (by decide)) (av_x (by decide)) (av_x (by decide)) g)
    exact br_c (fun _ => br_f (by decide) (br_f (by decide) (nm_e K))) (fun _ => br_f (by decide) (nm_e K))
  · subst e
    refine av_cf1 hp (fun s hs => ?_)
    dsimp only
    refine pk_eq 1 0 (fun z => absurd z (by decide)) (fun _ => pk_eq 1 1 (fun _ => ?_) (fun z => absurd rfl z))
    refine av_jt hp (fun k hk => by rw [hs]; exact av_fl_in hk) (av_N1f hl hh (hN.2.1 rfl)) (fun r t ht => ?_)
    have K := H a7 t a9 a10 a11 (av_N_cg (av_x (by decide)) (fun _ k hk => by rw [ht]; exact av_fl_in hk) (av_x (by decide)) (av_x (by decide)) hN)
      (fun p' a' l' h' hp' g => av_N_cg (av_x (by decide)) (fun _ k hk => by rw [ht, hs, av_fl_out (by omega), av_fl_out (by omega)]) (av_x (by decide)) (av_x (by decide)) g)
    exact br_c (fun _ => br_f (by decide) (br_f (by decide) (nm_e K))) (fun _ => br_f (by decide) (nm_e K))
  · subst e
    refine av_cf2 hp (fun s s' hs hs' => ?_)
    dsimp only
    refine pk_eq 2 0 (fun z => absurd z (by decide)) (fun _ => pk_eq 2 1 (fun z => absurd z (by decide)) (fun _ => pk_eq 2 2 (fun _ => ?_) (fun z => absurd rfl z)))
    refine av_jr hp (fun k hk => by rw [hs, hs']; exact ⟨av_fl_in hk, av_fl_in hk⟩) (av_N2f hl hh (hN.2.2.1 rfl)) (fun r t t' ht ht' => ?_)
    have K := H a7 a8 t t' a11 (av_N_cg (av_x (by decide)) (av_x (by decide)) (fun _ k hk => by rw [ht, ht']; exact ⟨av_fl_in hk, av_fl_in hk⟩) (av_x (by decide)) hN)
      (fun p' a' l' h' hp' g => av_N_cg (av_x (by decide)) (av_x (by decide)) (fun _ k hk => by
        rw [ht, hs, ht', hs']
        exact ⟨by rw [av_fl_out (by omega), av_fl_out (by omega)], by rw [av_fl_out (by omega), av_fl_out (by omega)]⟩) (av_x (by decide)) g)
    exact br_c (fun _ => br_f (by decide) (br_f (by decide) (nm_e K))) (fun _ => br_f (by decide) (nm_e K))
  · subst e
    refine av_cf3 hp (fun s hs => ?_)
    dsimp only
    refine pk_eq 3 0 (fun z => absurd z (by decide)) (fun _ => pk_eq 3 1 (fun z => absurd z (by decide)) (fun _ => pk_eq 3 2 (fun z => absurd z (by decide)) (fun _ => ?_)))
    refine av_jb hp (fun k hk => by rw [hs]; exact av_fl_in hk) (av_N3f hl hh (hN.2.2.2 rfl)) (fun r t ht => ?_)
    have K := H a7 a8 a9 a10 t (av_N_cg (av_x (by decide)) (av_x (by decide)) (av_x (by decide)) (fun _ k hk => by rw [ht]; exact av_fl_in hk) hN)
      (fun p' a' l' h' hp' g => av_N_cg (av_x (by decide)) (av_x (by decide)) (av_x (by decide)) (fun _ k hk => by rw [ht, hs, av_fl_out (by omega), av_fl_out (by omega)]) g)
    exact br_c (fun _ => br_f (by decide) (br_f (by decide) (nm_e K))) (fun _ => br_f (by decide) (nm_e K))
theorem av_join_same {q p a l h : Nat} (hq : q < 4) (hp : p ≤ 1) (h6 : a6 p = av_b q) (hN : av_N q a12 a14 a15 a16 a17 a l h) (hP : av_P q p a7 a8 a9 a10 a11 a l h) (H : post (c, lv, li, w, a1, a2, a3, a4, a5, a6, a7, a8, a9, a10, a11, a12, a13, a14, a15, a16, a17)) : wpX_join post (c, lv, li, w, a1, a2, a3, a4, a5, a6, a7, a8, a9, a10, a11, a12, a13, a14, a15, a16, a17) (nI q) (nI p) := by
  unfold wpX_join
  dsimp only
  refine av_filled hq (by omega) h6 ?_
  refine br_f (by decide) ?_
  rcases (show q = 0 ∨ q = 1 ∨ q = 2 ∨ q = 3 by omega) with e | e | e | e
  · subst e
    refine pk_eq 0 0 (fun _ => ?_) (fun z => absurd rfl z)
    refine av_jsS hp (fun k hk => av_ext (fun j hj => ?_)) (br_t rfl (br_t rfl (br_t rfl H)))
    have t1 := hP.1 rfl (64 * k + j) (by omega)
    have t2 := hN.1 rfl (64 * k + j) (by omega)
    rw [show (64 * k + j) / 64 = k by omega, show (64 * k + j) % 64 = j by omega] at t1 t2
    rw [t2]
    exact t1
  · subst e
    refine pk_eq 1 0 (fun z => absurd z (by decide)) (fun _ => pk_eq 1 1 (fun _ => ?_) (fun z => absurd rfl z))
    exact av_jtS hp (fun k hk => (hP.2.1 rfl k hk).trans (hN.2.1 rfl k hk).symm) (br_t rfl (br_t rfl (br_t rfl H)))
  · subst e
    refine pk_eq 2 0 (fun z => absurd z (by decide)) (fun _ => pk_eq 2 1 (fun z => absurd z (by decide)) (fun _ => pk_eq 2 2 (fun _ => ?_) (fun z => absurd rfl z)))
    exact av_jrS hp (fun k hk => ⟨(hP.2.2.1 rfl k hk).1.trans (hN.2.2.1 rfl k hk).1.symm, (hP.2.2.1 rfl k hk).2.trans (hN.2.2.1 rfl k hk).2.symm⟩) (br_t rfl (br_t rfl (br_t rfl H)))
  · subst e
    refine pk_eq 3 0 (fun z => absurd z (by decide)) (fun _ => pk_eq 3 1 (fun z => absurd z (by decide)) (fun _ => pk_eq 3 2 (fun z => absurd z (by decide)) (fun _ => ?_)))
    refine av_jbS hp (fun k hk => ?_) (br_t rfl (br_t rfl (br_t rfl H)))
    have t1 := hP.2.2.2 rfl (k / 4) (by omega) (k % 4) (by omega)
    have t2 := hN.2.2.2 rfl (k / 4) (by omega) (k % 4) (by omega)
    rw [show 4 * (k / 4) + k % 4 = k by omega] at t1 t2
    rw [t2]
    exact t1
/-! load -/
theorem av_ld99 {p : Nat} (hp : p ≤ 1) (H : ∀ s, s = av_fl a17 (fun k => vp_nar .byte (a11 (16 * p + k))) 0 16 → post (c, lv, li, w, a1, a2, a3, a4, a5, a6, a7, a8, a9, a10, a11, a12, a13, a14, a15, a16, s)) : ∃ n, wX_load_99 post (nI p) c lv li w n 0 a1 a2 a3 a4 a5 a6 a7 a8 a9 a10 a11 a12 a13 a14 a15 a16 a17 :=
  pk_loop (fun n i s => wX_load_99 post (nI p) c lv li w n (nI i) a1 a2 a3 a4 a5 a6 a7 a8 a9 a10 a11 a12 a13 a14 a15 a16 s) (fun i s => s = av_fl a17 (fun k => vp_nar .byte (a11 (16 * p + k))) 0 i) 16 0 a17 (by omega) av_fl0.symm
    (fun n s h => pk_le 16 16 (fun _ => H s h) (fun z => absurd z (by omega)))
    (fun n i s hi h hw => pk_le 16 i (fun z => absurd z (by omega)) (fun _ => ⟨pk_in (16 * p + i) 336 (by omega) (av_ix (M := 16) 16 p i), pk_in i 16 hi, nm_e (nm_r (nI_1 i) (hw _ (av_st h (av_cl0 hi) (congrArg (fun z => vp_nar .byte (a11 z)) (av_clo (M := 16) 16 p i (by omega))))))⟩))
theorem av_ld38 {p : Nat} (hp : p ≤ 1) (H : ∀ s14 s15 s16 s17, s14 = av_fl a14 (fun k => vp_nar .short (a8 (3 * p + k))) 0 3 → s15 = av_fl a15 (fun k => vp_nar .byte (a9 (3 * p + k))) 0 3 → s16 = av_fl a16 (fun k => vp_nar .byte (a10 (3 * p + k))) 0 3 → s17 = av_fl a17 (fun k => vp_nar .byte (a11 (16 * p + k))) 0 16 → post (c, lv, li, w, a1, a2, a3, a4, a5, a6, a7, a8, a9, a10, a11, a12, a13, s14, s15, s16, s17)) : ∃ n, wX_load_38 post (nI p) c lv li w n 0 a1 a2 a3 a4 a5 a6 a7 a8 a9 a10 a11 a12 a13 a14 a15 a16 a17 :=
  pk_loop (fun n i (s : (Nat → Int32) × (Nat → Int32) × (Nat → Int32)) => wX_load_38 post (nI p) c lv li w n (nI i) a1 a2 a3 a4 a5 a6 a7 a8 a9 a10 a11 a12 a13 s.1 s.2.1 s.2.2 a17) (fun i s => s.1 = av_fl a14 (fun k => vp_nar .short (a8 (3 * p + k))) 0 i ∧ s.2.1 = av_fl a15 (fun k => vp_nar .byte (a9 (3 * p + k))) 0 i ∧ s.2.2 = av_fl a16 (fun k => vp_nar .byte (a10 (3 * p + k))) 0 i) 3 0 (a14, a15, a16) (by omega) ⟨av_fl0.symm, av_fl0.symm, av_fl0.symm⟩
    (fun n s h => pk_le 3 3 (fun _ => av_ld99 hp (fun t ht => H s.1 s.2.1 s.2.2 t h.1 h.2.1 h.2.2 ht)) (fun z => absurd z (by omega)))
    (fun n i s hi h hw => pk_le 3 i (fun z => absurd z (by omega)) (fun _ => ⟨pk_in (3 * p + i) 63 (by omega) (av_ix (M := 3) 3 p i), pk_in i 3 hi, nm_e ⟨pk_in (3 * p + i) 63 (by omega) (av_ix (M := 3) 3 p i), pk_in i 3 hi, nm_e ⟨pk_in (3 * p + i) 63 (by omega) (av_ix (M := 3) 3 p i), pk_in i 3 hi, nm_e (nm_r (nI_1 i) (hw (_, _, _) ⟨av_st h.1 (av_cl0 hi) (congrArg (fun z => vp_nar .short (a8 z)) (av_clo (M := 3) 3 p i (by omega))), av_st h.2.1 (av_cl0 hi) (congrArg (fun z => vp_nar .byte (a9 z)) (av_clo (M := 3) 3 p i (by omega))), av_st h.2.2 (av_cl0 hi) (congrArg (fun z => vp_nar .byte (a10 z)) (av_clo (M := 3) 3 p i (by omega)))⟩))⟩⟩⟩))
theorem av_ld7 {p : Nat} (hp : p ≤ 1) (H : ∀ s12 s14 s15 s16 s17, s12 = av_fl a12 (fun k => a7 (8 * p + k)) 0 8 → s14 = av_fl a14 (fun k => vp_nar .short (a8 (3 * p + k))) 0 3 → s15 = av_fl a15 (fun k => vp_nar .byte (a9 (3 * p + k))) 0 3 → s16 = av_fl a16 (fun k => vp_nar .byte (a10 (3 * p + k))) 0 3 → s17 = av_fl a17 (fun k => vp_nar .byte (a11 (16 * p + k))) 0 16 → post (c, lv, li, w, a1, a2, a3, a4, a5, a6, a7, a8, a9, a10, a11, s12, a13, s14, s15, s16, s17)) : ∃ n, wX_load_7 post (nI p) c lv li w n 0 a1 a2 a3 a4 a5 a6 a7 a8 a9 a10 a11 a12 a13 a14 a15 a16 a17 :=
  pk_loop (fun n i s => wX_load_7 post (nI p) c lv li w n (nI i) a1 a2 a3 a4 a5 a6 a7 a8 a9 a10 a11 s a13 a14 a15 a16 a17) (fun i s => s = av_fl a12 (fun k => a7 (8 * p + k)) 0 i) 8 0 a12 (by omega) av_fl0.symm
    (fun n s h => pk_le 8 8 (fun _ => av_ld38 hp (fun s14 s15 s16 s17 h14 h15 h16 h17 => H s s14 s15 s16 s17 h h14 h15 h16 h17)) (fun z => absurd z (by omega)))
    (fun n i s hi h hw => pk_le 8 i (fun z => absurd z (by omega)) (fun _ => ⟨pk_in (8 * p + i) 168 (by omega) (av_ix (M := 8) 8 p i), pk_in i 8 hi, nm_e (nm_r (nI_1 i) (hw _ (av_stL h (av_cl0 hi) (congrArg a7 (av_clo (M := 8) 8 p i (by omega))))))⟩))
theorem av_load {q p a l h : Nat} (hp : p ≤ 1) (hl : l < 8) (hh : h < 8) (hP : av_P q p a7 a8 a9 a10 a11 a l h) (H : ∀ s12 s14 s15 s16 s17, av_N q s12 s14 s15 s16 s17 a l h → post (c, lv, 1, w, a1, a2, a3, a4, a5, a6, a7, a8, a9, a10, a11, s12, a13, s14, s15, s16, s17)) : wpX_load post (c, lv, li, w, a1, a2, a3, a4, a5, a6, a7, a8, a9, a10, a11, a12, a13, a14, a15, a16, a17) (nI q) (nI p) := by
  refine av_ld7 hp (fun s12 s14 s15 s16 s17 h12 h14 h15 h16 h17 => H s12 s14 s15 s16 s17 (av_N_cg (fun _ k hk => ?_) (fun e k hk => ?_) (fun e k hk => ?_) (fun e k hk => ?_) hP))
  · rw [h12, av_fl_z hk]
  · rw [h14, av_fl_z hk, vp_nar_short]
    exact av_N1f hl hh (hP.2.1 e) k hk
  · rw [h15, h16, av_fl_z hk, av_fl_z hk]
    have t := hP.2.2.1 e k hk
    dsimp only at t
    rw [t.1, t.2]
    exact ⟨av_nar8 _ (av_lo_lt hl), av_nar8 _ (av_lo_lt hh)⟩
  · rw [h17, av_fl_z hk]
    exact (av_N3f hl hh (hP.2.2.2 e) k hk).2
end
section
variable {c lv li w : Int32} {a1 a2 a3 a4 a5 a6 : Nat → Int32} {a7 : Nat → Int64} {a8 a9 a10 a11 : Nat → Int32} {a12 a13 : Nat → Int64} {a14 a15 a16 a17 : Nat → Int32}
variable {post : St2 → Prop}
theorem av_lo_le {a l h v : Nat} (hlh : l ≤ h) : av_lo a l v ≤ av_lo a h v := by
  unfold av_lo
  split <;> omega
theorem av_lo_s (a l : Nat) : av_lo a l a = l := if_pos rfl
theorem av_lo_o {a l v : Nat} (h : v ≠ a) : av_lo a l v = 0 := if_neg h
theorem av_S_nz : ∀ l, l < 8 → ∀ h, h < 8 → l ≤ h → ¬ av_S l h = 0 := by decide +kernel
theorem av_N1nz {a l h : Nat} (hl : l < 8) (hh : h < 8) (hlh : l ≤ h) (hN : av_N1 a14 a l h) : ∀ k, k < 3 → ¬ a14 k = 0 := by
  intro k hk
  rw [hN k hk]
  exact av_S_nz _ (av_lo_lt hl) _ (av_lo_lt hh) (av_lo_le hlh)
theorem av_N1u {z a l h : Nat} {v : Int32} (hN : av_N1 a14 z 0 0) (hv : v = av_S l h) : av_N1 (upd a14 a v) a l h := by
  intro k hk
  by_cases e : k = a
  · rw [e, pk_us, av_lo_s, av_lo_s, hv]
  · rw [pk_un e, hN k hk, av_lo0, av_lo_o e, av_lo_o e]
theorem av_N1_1 {z : Nat} (hN : av_N1 a14 z 0 0) {k : Nat} (hk : k < 3) : a14 (nI k).toNatClampNeg = 1 := by
  rw [nI_clamp (by omega), hN k hk, av_lo0]
  rfl
/-! the last loop of applyToSets -/
theorem av_s62 (h : ∀ k, k < 3 → ¬ a14 k = 0) (H : post (c, lv, li, w, a1, a2, a3, a4, a5, a6, a7, a8, a9, a10, a11, a12, a13, a14, a15, a16, a17)) : ∃ n, wX_applyToSets_62 post c lv w a1 a2 a3 a4 a5 a6 a7 a8 a9 a10 a11 a12 a13 a14 a15 a16 a17 n 0 li :=
  pk_loop (σ := Unit) (fun n i _ => wX_applyToSets_62 post c lv w a1 a2 a3 a4 a5 a6 a7 a8 a9 a10 a11 a12 a13 a14 a15 a16 a17 n (nI i) li) (fun _ _ => True) 3 0 () (by omega) trivial
    (fun n _ _ => pk_le 3 3 (fun _ => H) (fun z => absurd z (by omega)))
    (fun n i _ hi _ hw => pk_le 3 i (fun z => absurd z (by omega)) (fun _ => ⟨pk_in i 3 hi, br_f (by rw [nI_clamp (by omega)]; exact h i hi) (nm_r (nI_1 i) (hw () trivial))⟩))
theorem av_s62d (h : li = 0 ∨ ∃ k, k < 3 ∧ a14 k = 0) (H : post (c, lv, 0, w, a1, a2, a3, a4, a5, a6, a7, a8, a9, a10, a11, a12, a13, a14, a15, a16, a17)) : ∃ n, wX_applyToSets_62 post c lv w a1 a2 a3 a4 a5 a6 a7 a8 a9 a10 a11 a12 a13 a14 a15 a16 a17 n 0 li := by
  refine pk_loop (fun n i s => wX_applyToSets_62 post c lv w a1 a2 a3 a4 a5 a6 a7 a8 a9 a10 a11 a12 a13 a14 a15 a16 a17 n (nI i) s) (fun i s => s = 0 ∨ ∃ k, i ≤ k ∧ k < 3 ∧ a14 k = 0) 3 0 li (by omega) ?_ ?_ ?_
  · rcases h with h | ⟨k, h1, h2⟩
    · exact Or.inl h
    · exact Or.inr ⟨k, by omega, h1, h2⟩
  · intro n s hs
    have e : s = 0 := by
      rcases hs with hs | ⟨k, h1, h2, _⟩
      · exact hs
      · omega
    subst e
    exact pk_le 3 3 (fun _ => H) (fun z => absurd z (by omega))
  · intro n i s hi hs hw
    refine pk_le 3 i (fun z => absurd z (by omega)) (fun _ => ⟨pk_in i 3 hi, ?_⟩)
    rw [nI_clamp (show i < 2 ^ 31 by omega)]
    refine br_c (fun _ => nm_r (nI_1 i) (hw _ (Or.inl rfl))) (fun z => nm_r (nI_1 i) (hw _ ?_))
    rcases hs with hs | ⟨k, h1, h2, h3⟩
    · exact Or.inl hs
    · refine Or.inr ⟨k, ?_, h2, h3⟩
      by_cases e : k = i
      · rw [e] at h3
        exact absurd h3 z
      · omega
/-! set, any -/
theorem av_v1 : ∀ k, k < 8 → ((1 : Int32) <<< (nI k &&& 31)).toInt16.toInt32 = av_S k k := by decide +kernel
theorem av_aS_set {a k z : Nat} {B : Int32} (ha : a < 3) (hk : k < 8) (hN : av_N1 a14 z 0 0) (H : ∀ s, av_N1 s a k k → post (c, lv, li, w, a1, a2, a3, a4, a5, a6, a7, a8, a9, a10, a11, a12, a13, s, a15, a16, a17)) : wpX_applyToSets post (c, lv, li, w, a1, a2, a3, a4, a5, a6, a7, a8, a9, a10, a11, a12, a13, a14, a15, a16, a17) 0 (nI a) B (nI k) := by
  refine br_t rfl ⟨pk_in a 3 ha, nm_e ?_⟩
  rw [nI_clamp (show a < 2 ^ 31 by omega)]
  have K := av_N1u (a := a) hN (av_v1 k hk)
  exact av_s62 (av_N1nz hk hk (Nat.le_refl k) K) (H _ K)
theorem av_aS_any {a z : Nat} {B C : Int32} (ha : a < 3) (hN : av_N1 a14 z 0 0) (H : ∀ s, av_N1 s a 0 7 → post (c, lv, li, w, a1, a2, a3, a4, a5, a6, a7, a8, a9, a10, a11, a12, a13, s, a15, a16, a17)) : wpX_applyToSets post (c, lv, li, w, a1, a2, a3, a4, a5, a6, a7, a8, a9, a10, a11, a12, a13, a14, a15, a16, a17) 2 (nI a) B C := by
  refine br_f (by decide) (br_t rfl ⟨pk_in a 3 ha, nm_e ?_⟩)
  rw [nI_clamp (show a < 2 ^ 31 by omega)]
  have K := av_N1u (a := a) (l := 0) (h := 7) (v := 255) hN (by decide +kernel)
  exact av_s62 (av_N1nz (by omega) (by omega) (by omega) K) (H _ K)
/-! copy -/
theorem av_v2 : ∀ k, k < 8 → (((1 : Int32) <<< (nI k &&& 31)) &&& 255).toInt16.toInt32 = av_S k k := by decide +kernel
theorem av_v3 : ∀ k, k < 8 → - nI k < 0 → (((((1 : Int32) <<< (nI k &&& 31)) &&& 255) >>> ((- - nI k) &&& 31)) &&& 255).toInt16.toInt32 = av_S 0 0 := by decide +kernel
theorem av_v4 : ∀ k, k < 8 → ¬ - nI k < 0 → (((((1 : Int32) <<< (nI k &&& 31)) &&& 255) <<< ((- nI k) &&& 31)) &&& 255).toInt16.toInt32 = av_S 0 0 := by decide +kernel
theorem av_cs15 {a b k z : Nat} (ha : a < 3) (hb : b < 4) (hk : k < 8) (hN : av_N1 a14 z 0 0) (H : ∀ s, av_N1 s a k k → post (c, lv, li, w, a1, a2, a3, a4, a5, a6, a7, a8, a9, a10, a11, a12, a13, s, a15, a16, a17)) : wX_copySets_15 post (nI a) (nI b) (nI k) 1 c lv li w a1 a2 a3 a4 a5 a6 a7 a8 a9 a10 a11 a12 a13 a14 a15 a16 a17 := by
  refine br_f (nI_pos (by omega)) ?_
  refine pk_le 3 b (fun _ => ⟨pk_in a 3 ha, nm_e ?_⟩) (fun hb3 => pk_eq b a (fun _ => ⟨pk_in a 3 ha, nm_e ?_⟩) (fun _ => br_c (fun z3 => ⟨pk_in b 3 hb3, nm_e ⟨pk_in a 3 ha, nm_e ?_⟩⟩) (fun z3 => ⟨pk_in b 3 hb3, nm_e ⟨pk_in a 3 ha, nm_e ?_⟩⟩)))
  · rw [nI_clamp (show a < 2 ^ 31 by omega)]
    exact H _ (av_N1u hN (av_v2 k hk))
  · rw [nI_clamp (show a < 2 ^ 31 by omega)]
    exact H _ (av_N1u hN (av_v2 k hk))
  · rw [nI_clamp (show a < 2 ^ 31 by omega), nI_clamp (show b < 2 ^ 31 by omega)]
    exact H _ (av_N1u (av_N1u hN (av_v3 k hk z3)) (av_v2 k hk))
  · rw [nI_clamp (show a < 2 ^ 31 by omega), nI_clamp (show b < 2 ^ 31 by omega)]
    exact H _ (av_N1u (av_N1u hN (av_v4 k hk z3)) (av_v2 k hk))
theorem av_aS_cpy {a b k z : Nat} (ha : a < 3) (hb : b < 4) (hk : k < 8) (hN : av_N1 a14 z 0 0) (H : ∀ s, av_N1 s a k k → post (c, lv, li, w, a1, a2, a3, a4, a5, a6, a7, a8, a9, a10, a11, a12, a13, s, a15, a16, a17)) : wpX_applyToSets post (c, lv, li, w, a1, a2, a3, a4, a5, a6, a7, a8, a9, a10, a11, a12, a13, a14, a15, a16, a17) 1 (nI a) (nI b) (nI k) := by
  refine br_f (by decide) (br_f (by decide) (br_t rfl ?_))
  have K : ∀ s, av_N1 s a k k → ∃ n, wX_applyToSets_62 post c lv w a1 a2 a3 a4 a5 a6 a7 a8 a9 a10 a11 a12 a13 s a15 a16 a17 n 0 li := fun s hs => av_s62 (av_N1nz hk hk (Nat.le_refl k) hs) (H s hs)
  refine pk_eq b 3 (fun _ => av_cs15 ha hb hk hN K) (fun hb3 => ⟨pk_in b 3 (by omega), ?_⟩)
  rw [av_N1_1 hN (show b < 3 by omega)]
  exact av_cs15 ha hb hk hN K
theorem av_v5 : ∀ k, k < 8 → 1 ≤ k → - nI k < 0 ∧ (((1 : Int32) >>> ((- - nI k) &&& 31)) &&& 255).toInt16.toInt32 = 0 := by decide +kernel
theorem av_cs15d {a b k : Nat} (ha : a < 3) (hb : b < 4) (hk : k < 8) (hk1 : 1 ≤ k) (H : ∀ s, s a = 0 → post (c, lv, li, w, a1, a2, a3, a4, a5, a6, a7, a8, a9, a10, a11, a12, a13, s, a15, a16, a17)) : wX_copySets_15 post (nI a) (nI b) (- nI k) 1 c lv li w a1 a2 a3 a4 a5 a6 a7 a8 a9 a10 a11 a12 a13 a14 a15 a16 a17 := by
  refine br_t (av_v5 k hk hk1).1 ?_
  refine pk_le 3 b (fun _ => ⟨pk_in a 3 ha, nm_e ?_⟩) (fun hb3 => pk_eq b a (fun _ => ⟨pk_in a 3 ha, nm_e ?_⟩) (fun _ => br_c (fun z3 => ⟨pk_in b 3 hb3, nm_e ⟨pk_in a 3 ha, nm_e ?_⟩⟩) (fun z3 => ⟨pk_in b 3 hb3, nm_e ⟨pk_in a 3 ha, nm_e ?_⟩⟩)))
  · rw [nI_clamp (show a < 2 ^ 31 by omega), (av_v5 k hk hk1).2]
    exact H _ pk_us
  · rw [nI_clamp (show a < 2 ^ 31 by omega), (av_v5 k hk hk1).2]
    exact H _ pk_us
  · rw [nI_clamp (show a < 2 ^ 31 by omega), (av_v5 k hk hk1).2]
    exact H _ pk_us
  · rw [nI_clamp (show a < 2 ^ 31 by omega), (av_v5 k hk hk1).2]
    exact H _ pk_us
theorem av_aS_cpyd {a b k z : Nat} (ha : a < 3) (hb : b < 4) (hk : k < 8) (hk1 : 1 ≤ k) (hN : av_N1 a14 z 0 0) (H : ∀ s, post (c, lv, 0, w, a1, a2, a3, a4, a5, a6, a7, a8, a9, a10, a11, a12, a13, s, a15, a16, a17)) : wpX_applyToSets post (c, lv, li, w, a1, a2, a3, a4, a5, a6, a7, a8, a9, a10, a11, a12, a13, a14, a15, a16, a17) 1 (nI a) (nI b) (- nI k) := by
  refine br_f (by decide) (br_f (by decide) (br_t rfl ?_))
  have K : ∀ s, s a = 0 → ∃ n, wX_applyToSets_62 post c lv w a1 a2 a3 a4 a5 a6 a7 a8 a9 a10 a11 a12 a13 s a15 a16 a17 n 0 li := fun s hs => av_s62d (Or.inr ⟨a, ha, hs⟩) (H s)
  refine pk_eq b 3 (fun _ => av_cs15d ha hb hk hk1 K) (fun hb3 => ⟨pk_in b 3 (by omega), ?_⟩)
  rw [av_N1_1 hN (show b < 3 by omega)]
  exact av_cs15d ha hb hk hk1 K
/-! less -/
theorem av_g1 : ∀ k, k < 8 → 1 ≤ k → ((1 : Int32) >>> (nI k &&& 31)) &&& 1 = 0 := by decide +kernel
theorem av_gr1 {post : Int32 → Prop} (H : post 0) : wpX_greatestOf post (c, lv, li, w, a1, a2, a3, a4, a5, a6, a7, a8, a9, a10, a11, a12, a13, a14, a15, a16, a17) 1 :=
  Exists.intro 8 (pk_loopD (σ := Unit) (fun n i _ => wX_greatestOf_3 post 1 c lv li w a1 a2 a3 a4 a5 a6 a7 a8 a9 a10 a11 a12 a13 a14 a15 a16 a17 n (nI i)) (fun i _ => i ≤ 7) (fun n _ _ => br_f (by decide) H) (fun n i _ h hw => br_t (av_g1 (i + 1) (by omega) (by omega)) (nm_r (pk_m1 i) (hw () (by omega)))) 7 () (by omega))
theorem av_sm1 {post : Int32 → Prop} (H : post 0) : wpX_smallestOf post (c, lv, li, w, a1, a2, a3, a4, a5, a6, a7, a8, a9, a10, a11, a12, a13, a14, a15, a16, a17) 1 := Exists.intro 1 (br_f (by decide) H)
theorem av_l19 {a b : Nat} {C : Int32} {z : Nat} (ha : a < 4) (hN : av_N1 a14 z 0 0) (H : wX_lessSets_40 post (nI a) (nI b) C 0 0 c lv li w a1 a2 a3 a4 a5 a6 a7 a8 a9 a10 a11 a12 a13 a14 a15 a16 a17) : wX_lessSets_19 post (nI a) (nI b) C 0 c lv li w a1 a2 a3 a4 a5 a6 a7 a8 a9 a10 a11 a12 a13 a14 a15 a16 a17 := by
  refine pk_eq a 3 (fun _ => H) (fun h3 => ⟨pk_in a 3 (by omega), ?_⟩)
  rw [av_N1_1 hN (show a < 3 by omega)]
  exact av_sm1 H
theorem av_less1 {a b : Nat} {C : Int32} {z : Nat} (ha : a < 4) (hb : b < 4) (hN : av_N1 a14 z 0 0) (H : wX_lessSets_40 post (nI a) (nI b) C 0 0 c lv li w a1 a2 a3 a4 a5 a6 a7 a8 a9 a10 a11 a12 a13 a14 a15 a16 a17) : wpX_lessSets post (c, lv, li, w, a1, a2, a3, a4, a5, a6, a7, a8, a9, a10, a11, a12, a13, a14, a15, a16, a17) (nI a) (nI b) C := by
  refine pk_eq b 3 (fun _ => av_l19 ha hN H) (fun h3 => ⟨pk_in b 3 (by omega), ?_⟩)
  rw [av_N1_1 hN (show b < 3 by omega)]
  exact av_gr1 (av_l19 ha hN H)
theorem av_z1 (x : Int32) : 0 + x = x := Int32.zero_add x
theorem av_v6 : ∀ k, k < 8 → ((1 : Int32) &&& (((2 : Int32) <<< (nI k &&& 31)) - 1)).toInt16.toInt32 = av_S 0 0 := by decide +kernel
theorem av_up {post : Int32 → Prop} {k : Nat} (hk : k < 8) (H : ∀ r, ((1 : Int32) &&& r).toInt16.toInt32 = av_S 0 0 → post r) : wpX_upTo post (c, lv, li, w, a1, a2, a3, a4, a5, a6, a7, a8, a9, a10, a11, a12, a13, a14, a15, a16, a17) (nI k) :=
  pk_le 0 k (fun _ => pk_le k 7 (fun _ => H _ (av_v6 k hk)) (fun z => absurd z (by omega))) (fun z => absurd z (by omega))
theorem av_upn {post : Int32 → Prop} {x : Int32} (hx : ¬ 0 ≤ x) (H : post 0) : wpX_upTo post (c, lv, li, w, a1, a2, a3, a4, a5, a6, a7, a8, a9, a10, a11, a12, a13, a14, a15, a16, a17) x := br_f hx H
theorem av_upa {post : Int32 → Prop} {x : Int32} (H : ∀ r, post r) : wpX_upTo post (c, lv, li, w, a1, a2, a3, a4, a5, a6, a7, a8, a9, a10, a11, a12, a13, a14, a15, a16, a17) x := br_c (fun _ => br_c (fun _ => H _) (fun _ => H _)) (fun _ => H _)
theorem av_v7 : ∀ k, k < 8 → ¬ (0 : Int32) ≤ 0 - nI k - 1 := by decide +kernel
theorem av_v8 : ∀ k, k < 8 → (0 : Int32) - nI k ≤ 0 := by decide +kernel
theorem av_l65 {a b k z : Nat} (ha : a < 4) (hb : b < 4) (hk : k < 8) (hN : av_N1 a14 z 0 0) (H : ∀ s, av_N1 s 0 0 0 → post (c, lv, li, w, a1, a2, a3, a4, a5, a6, a7, a8, a9, a10, a11, a12, a13, s, a15, a16, a17)) : wX_lessSets_65 post (nI a) (nI b) (nI k) 0 0 c lv li w a1 a2 a3 a4 a5 a6 a7 a8 a9 a10 a11 a12 a13 a14 a15 a16 a17 := by
  have K : ∀ s, av_N1 s 0 0 0 → wX_lessSets_96 post (nI a) (nI b) (nI k) 0 0 c lv li w a1 a2 a3 a4 a5 a6 a7 a8 a9 a10 a11 a12 a13 s a15 a16 a17 := by
    intro s hs
    have K2 : wX_lessSets_113 post (nI b) (nI k) 0 c lv li w a1 a2 a3 a4 a5 a6 a7 a8 a9 a10 a11 a12 a13 s a15 a16 a17 := pk_eq b 3 (fun _ => br_t (av_v8 k hk) (H s hs)) (fun _ => H s hs)
    refine pk_eq a 3 (fun _ => br_t ?_ K2) (fun _ => K2)
    rw [av_z1]
    exact nI_pos' (by omega)
  have hz : ∀ s y, av_N1 s y 0 0 → av_N1 s 0 0 0 := by
    intro s y hs v hv
    rw [hs v hv, av_lo0, av_lo0]
  refine pk_le 3 b (fun _ => K _ (hz _ _ hN)) (fun hb3 => ⟨pk_in b 3 hb3, av_upn (av_v7 k hk) ⟨pk_in b 3 hb3, nm_e (K _ (hz _ b ?_))⟩⟩)
  rw [av_N1_1 hN hb3, nI_clamp (show b < 2 ^ 31 by omega)]
  exact av_N1u hN (by decide +kernel)
theorem av_aS_less {a b k z : Nat} (ha : a < 4) (hb : b < 4) (hk : k < 8) (hN : av_N1 a14 z 0 0) (H : ∀ s, av_N1 s 0 0 0 → post (c, lv, li, w, a1, a2, a3, a4, a5, a6, a7, a8, a9, a10, a11, a12, a13, s, a15, a16, a17)) : wpX_applyToSets post (c, lv, li, w, a1, a2, a3, a4, a5, a6, a7, a8, a9, a10, a11, a12, a13, a14, a15, a16, a17) 3 (nI a) (nI b) (nI k) := by
  refine br_f (by decide) (br_f (by decide) (br_f (by decide) (av_less1 ha hb hN ?_)))
  have K : ∀ s, av_N1 s 0 0 0 → ∃ n, wX_applyToSets_62 post c lv w a1 a2 a3 a4 a5 a6 a7 a8 a9 a10 a11 a12 a13 s a15 a16 a17 n 0 li := fun s hs => av_s62 (av_N1nz (by omega) (by omega) (Nat.le_refl 0) hs) (H s hs)
  refine pk_le 3 a (fun _ => av_l65 ha hb hk hN K) (fun ha3 => ⟨pk_in a 3 ha3, ?_⟩)
  rw [av_z1]
  refine av_up hk (fun r hr => ⟨pk_in a 3 ha3, nm_e (av_l65 (z := a) ha hb hk ?_ K)⟩)
  rw [av_N1_1 hN ha3, nI_clamp (show a < 2 ^ 31 by omega)]
  exact av_N1u hN hr
theorem av_v9 : ∀ k, k < 8 → 1 ≤ k → ¬ (0 : Int32) ≤ - nI k ∧ ¬ (0 : Int32) - - nI k ≤ 0 := by decide +kernel
theorem av_l65d {a b k : Nat} (ha : a < 4) (hb : b < 4) (hab : a ≠ b) (hk : k < 8) (hk1 : 1 ≤ k) (hz : a < 3 → a14 a = 0) (H : ∀ m s, (m = 0 ∨ ∃ j, j < 3 ∧ s j = 0) → post (c, lv, m, w, a1, a2, a3, a4, a5, a6, a7, a8, a9, a10, a11, a12, a13, s, a15, a16, a17)) : wX_lessSets_65 post (nI a) (nI b) (- nI k) 0 0 c lv li w a1 a2 a3 a4 a5 a6 a7 a8 a9 a10 a11 a12 a13 a14 a15 a16 a17 := by
  have K : ∀ s, (a < 3 → s a = 0) → wX_lessSets_96 post (nI a) (nI b) (- nI k) 0 0 c lv li w a1 a2 a3 a4 a5 a6 a7 a8 a9 a10 a11 a12 a13 s a15 a16 a17 := by
    intro s hs
    refine pk_eq a 3 (fun e => br_f ?_ (pk_eq b 3 (fun e2 => absurd (e.trans e2.symm) hab) (fun _ => H _ _ (Or.inl rfl)))) (fun e => pk_eq b 3 (fun _ => br_f (av_v9 k hk hk1).2 (H _ _ (Or.inl rfl))) (fun _ => H _ _ (Or.inr ⟨a, by omega, hs (by omega)⟩)))
    rw [av_z1]
    exact (av_v9 k hk hk1).1
  refine pk_le 3 b (fun _ => K _ hz) (fun hb3 => ⟨pk_in b 3 hb3, av_upa (fun r => ⟨pk_in b 3 hb3, nm_e (K _ (fun h3 => ?_))⟩)⟩)
  rw [nI_clamp (show b < 2 ^ 31 by omega), pk_un hab]
  exact hz h3
theorem av_aS_lessd {a b k z : Nat} (ha : a < 4) (hb : b < 4) (hab : a ≠ b) (hk : k < 8) (hk1 : 1 ≤ k) (hN : av_N1 a14 z 0 0) (H : ∀ s, post (c, lv, 0, w, a1, a2, a3, a4, a5, a6, a7, a8, a9, a10, a11, a12, a13, s, a15, a16, a17)) : wpX_applyToSets post (c, lv, li, w, a1, a2, a3, a4, a5, a6, a7, a8, a9, a10, a11, a12, a13, a14, a15, a16, a17) 3 (nI a) (nI b) (- nI k) := by
  refine br_f (by decide) (br_f (by decide) (br_f (by decide) (av_less1 ha hb hN ?_)))
  have K : ∀ m s, (m = 0 ∨ ∃ j, j < 3 ∧ s j = 0) → ∃ n, wX_applyToSets_62 post c lv w a1 a2 a3 a4 a5 a6 a7 a8 a9 a10 a11 a12 a13 s a15 a16 a17 n 0 m := fun m s hs => av_s62d hs (H s)
  refine pk_le 3 a (fun h3 => av_l65d ha hb hab hk hk1 (fun z3 => absurd z3 (by omega)) K) (fun ha3 => ⟨pk_in a 3 ha3, ?_⟩)
  rw [av_z1]
  refine av_upn (av_v9 k hk hk1).1 ⟨pk_in a 3 ha3, nm_e (av_l65d ha hb hab hk hk1 (fun _ => ?_) K)⟩
  rw [av_N1_1 hN ha3, nI_clamp (show a < 2 ^ 31 by omega), pk_us]
  decide +kernel
end
section
variable {c lv li w : Int32} {a1 a2 a3 a4 a5 a6 : Nat → Int32} {a7 : Nat → Int64} {a8 a9 a10 a11 : Nat → Int32} {a12 a13 : Nat → Int64} {a14 a15 a16 a17 : Nat → Int32}
variable {post : St2 → Prop}
theorem av_N2u {z a l h : Nat} {x y : Int32} (hN : av_N2 a15 a16 z 0 0) (hx : x = nI l) (hy : y = nI h) : av_N2 (upd a15 a x) (upd a16 a y) a l h := by
  intro k hk
  by_cases e : k = a
  · rw [e, pk_us, pk_us, av_lo_s, av_lo_s, hx, hy]
    exact ⟨rfl, rfl⟩
  · rw [pk_un e, pk_un e, (hN k hk).1, (hN k hk).2, av_lo0, av_lo_o e, av_lo_o e]
    exact ⟨rfl, rfl⟩
theorem av_N2_0 {z : Nat} (hN : av_N2 a15 a16 z 0 0) {k : Nat} (hk : k < 3) : a15 (nI k).toNatClampNeg = 0 ∧ a16 (nI k).toNatClampNeg = 0 := by
  rw [nI_clamp (by omega), (hN k hk).1, (hN k hk).2, av_lo0]
  exact ⟨rfl, rfl⟩
theorem av_N2le {a l h : Nat} (hlh : l ≤ h) (hh : h < 8) (hN : av_N2 a15 a16 a l h) : ∀ k, k < 3 → a15 k ≤ a16 k := by
  intro k hk
  rw [(hN k hk).1, (hN k hk).2]
  have := av_lo_lt (a := a) (v := k) hh
  exact nI_le (av_lo_le hlh) (by omega)
theorem av_r59 (h : ∀ k, k < 3 → a15 k ≤ a16 k) (H : post (c, lv, li, w, a1, a2, a3, a4, a5, a6, a7, a8, a9, a10, a11, a12, a13, a14, a15, a16, a17)) : ∃ n, wX_applyToRanges_59 post c lv w a1 a2 a3 a4 a5 a6 a7 a8 a9 a10 a11 a12 a13 a14 a15 a16 a17 n 0 li :=
  pk_loop (σ := Unit) (fun n i _ => wX_applyToRanges_59 post c lv w a1 a2 a3 a4 a5 a6 a7 a8 a9 a10 a11 a12 a13 a14 a15 a16 a17 n (nI i) li) (fun _ _ => True) 3 0 () (by omega) trivial
    (fun n _ _ => pk_le 3 3 (fun _ => H) (fun z => absurd z (by omega)))
    (fun n i _ hi _ hw => pk_le 3 i (fun z => absurd z (by omega)) (fun _ => ⟨pk_in i 3 hi, pk_in i 3 hi, br_t (by rw [nI_clamp (by omega)]; exact h i hi) (nm_r (nI_1 i) (hw () trivial))⟩))
theorem av_r59d (h : li = 0 ∨ ∃ k, k < 3 ∧ ¬ a15 k ≤ a16 k) (H : post (c, lv, 0, w, a1, a2, a3, a4, a5, a6, a7, a8, a9, a10, a11, a12, a13, a14, a15, a16, a17)) : ∃ n, wX_applyToRanges_59 post c lv w a1 a2 a3 a4 a5 a6 a7 a8 a9 a10 a11 a12 a13 a14 a15 a16 a17 n 0 li := by
  refine pk_loop (fun n i s => wX_applyToRanges_59 post c lv w a1 a2 a3 a4 a5 a6 a7 a8 a9 a10 a11 a12 a13 a14 a15 a16 a17 n (nI i) s) (fun i s => s = 0 ∨ ∃ k, i ≤ k ∧ k < 3 ∧ ¬ a15 k ≤ a16 k) 3 0 li (by omega) ?_ ?_ ?_
  · rcases h with h | ⟨k, h1, h2⟩
    · exact Or.inl h
    · exact Or.inr ⟨k, by omega, h1, h2⟩
  · intro n s hs
    have e : s = 0 := by
      rcases hs with hs | ⟨k, h1, h2, _⟩
      · exact hs
      · omega
    subst e
    exact pk_le 3 3 (fun _ => H) (fun z => absurd z (by omega))
  · intro n i s hi hs hw
    refine pk_le 3 i (fun z => absurd z (by omega)) (fun _ => ⟨pk_in i 3 hi, pk_in i 3 hi, ?_⟩)
    rw [nI_clamp (show i < 2 ^ 31 by omega)]
    refine br_c (fun z => nm_r (nI_1 i) (hw _ ?_)) (fun _ => nm_r (nI_1 i) (hw _ (Or.inl rfl)))
    rcases hs with hs | ⟨k, h1, h2, h3⟩
    · exact Or.inl hs
    · refine Or.inr ⟨k, ?_, h2, h3⟩
      by_cases e : k = i
      · rw [e] at h3
        exact absurd z h3
      · omega
theorem av_i8 : ∀ k, k < 8 → (nI k).toInt8.toInt32 = nI k := by decide +kernel
theorem av_setR {v : Nat} {x y : Int32} (hv : v < 3) (H : post (c, lv, li, w, a1, a2, a3, a4, a5, a6, a7, a8, a9, a10, a11, a12, a13, a14, upd a15 v x.toInt8.toInt32, upd a16 v y.toInt8.toInt32, a17)) : wpX_setRange post (c, lv, li, w, a1, a2, a3, a4, a5, a6, a7, a8, a9, a10, a11, a12, a13, a14, a15, a16, a17) (nI v) x y := by
  refine And.intro (pk_in v 3 hv) (nm_e ⟨pk_in v 3 hv, nm_e ?_⟩)
  rw [nI_clamp (show v < 2 ^ 31 by omega)]
  exact H
theorem av_aR_set {a k z : Nat} {B : Int32} (ha : a < 3) (hk : k < 8) (hN : av_N2 a15 a16 z 0 0) (H : ∀ s t, av_N2 s t a k k → post (c, lv, li, w, a1, a2, a3, a4, a5, a6, a7, a8, a9, a10, a11, a12, a13, a14, s, t, a17)) : wpX_applyToRanges post (c, lv, li, w, a1, a2, a3, a4, a5, a6, a7, a8, a9, a10, a11, a12, a13, a14, a15, a16, a17) 0 (nI a) B (nI k) := by
  have K := av_N2u (a := a) hN (av_i8 k hk) (av_i8 k hk)
  refine br_t rfl (av_setR ha ?_)
  exact av_r59 (av_N2le (Nat.le_refl k) hk K) (H _ _ K)
theorem av_aR_any {a z : Nat} {B C : Int32} (ha : a < 3) (hN : av_N2 a15 a16 z 0 0) (H : ∀ s t, av_N2 s t a 0 7 → post (c, lv, li, w, a1, a2, a3, a4, a5, a6, a7, a8, a9, a10, a11, a12, a13, a14, s, t, a17)) : wpX_applyToRanges post (c, lv, li, w, a1, a2, a3, a4, a5, a6, a7, a8, a9, a10, a11, a12, a13, a14, a15, a16, a17) 2 (nI a) B C := by
  have K := av_N2u (a := a) (l := 0) (h := 7) (x := (0 : Int32).toInt8.toInt32) (y := (7 : Int32).toInt8.toInt32) hN (by decide +kernel) (by decide +kernel)
  refine br_f (by decide) (br_t rfl (av_setR ha ?_))
  exact av_r59 (av_N2le (by omega) (by omega) K) (H _ _ K)
theorem av_cr15 {a b k z : Nat} (ha : a < 3) (hb : b < 4) (hk : k < 8) (hN : av_N2 a15 a16 z 0 0) (H : ∀ s t, av_N2 s t a k k → post (c, lv, li, w, a1, a2, a3, a4, a5, a6, a7, a8, a9, a10, a11, a12, a13, a14, s, t, a17)) : wX_copyRanges_15 post (nI a) (nI b) (nI k) 0 c lv li w a1 a2 a3 a4 a5 a6 a7 a8 a9 a10 a11 a12 a13 a14 a15 a16 a17 := by
  have e0 : (nI k - nI k).toInt8.toInt32 = nI 0 := by
    rw [Int32.sub_self]
    decide +kernel
  have K80 : ∀ s t y, av_N2 s t y 0 0 → wX_copyRanges_80 post (nI a) (nI k) (nI k) c lv li w a1 a2 a3 a4 a5 a6 a7 a8 a9 a10 a11 a12 a13 a14 s t a17 := fun s t y hs => av_setR ha (H _ _ (av_N2u hs (av_i8 k hk) (av_i8 k hk)))
  have K57 : wX_copyRanges_57 post (nI a) (nI b) (nI k) (nI k) (nI k) c lv li w a1 a2 a3 a4 a5 a6 a7 a8 a9 a10 a11 a12 a13 a14 a15 a16 a17 := by
    refine pk_le 3 b (fun _ => K80 _ _ z hN) (fun hb3 => pk_eq b a (fun _ => K80 _ _ z hN) (fun _ => av_setR hb3 (K80 _ _ b ?_)))
    exact av_N2u hN e0 e0
  have K34 : wX_copyRanges_34 post (nI a) (nI b) (nI k) (nI k) 0 c lv li w a1 a2 a3 a4 a5 a6 a7 a8 a9 a10 a11 a12 a13 a14 a15 a16 a17 := nm_r (av_z1 (nI k)) (pk_le 0 k (fun _ => pk_le k 7 (fun _ => K57) (fun z => absurd z (by omega))) (fun z => absurd z (by omega)))
  refine nm_r (av_z1 (nI k)) (pk_eq b 3 (fun _ => K34) (fun hb3 => ⟨pk_in b 3 (by omega), ?_⟩))
  rw [(av_N2_0 hN (show b < 3 by omega)).2]
  exact K34
theorem av_aR_cpy {a b k z : Nat} (ha : a < 3) (hb : b < 4) (hk : k < 8) (hN : av_N2 a15 a16 z 0 0) (H : ∀ s t, av_N2 s t a k k → post (c, lv, li, w, a1, a2, a3, a4, a5, a6, a7, a8, a9, a10, a11, a12, a13, a14, s, t, a17)) : wpX_applyToRanges post (c, lv, li, w, a1, a2, a3, a4, a5, a6, a7, a8, a9, a10, a11, a12, a13, a14, a15, a16, a17) 1 (nI a) (nI b) (nI k) := by
  refine br_f (by decide) (br_f (by decide) (br_t rfl ?_))
  have K : ∀ s t, av_N2 s t a k k → ∃ n, wX_applyToRanges_59 post c lv w a1 a2 a3 a4 a5 a6 a7 a8 a9 a10 a11 a12 a13 a14 s t a17 n 0 li := fun s t hs => av_r59 (av_N2le (Nat.le_refl k) hk hs) (H s t hs)
  refine pk_eq b 3 (fun _ => av_cr15 ha hb hk hN K) (fun hb3 => ⟨pk_in b 3 (by omega), ?_⟩)
  rw [(av_N2_0 hN (show b < 3 by omega)).1]
  exact av_cr15 ha hb hk hN K
theorem av_v10 : ∀ k, k < 8 → 1 ≤ k → ¬ (0 : Int32) ≤ - nI k ∧ - nI k ≤ 7 ∧ ¬ (0 : Int32).toInt8.toInt32 ≤ (- nI k).toInt8.toInt32 := by decide +kernel
theorem av_cr15d {a b k z : Nat} (ha : a < 3) (hb : b < 4) (hk : k < 8) (hk1 : 1 ≤ k) (hN : av_N2 a15 a16 z 0 0) (H : ∀ s t : Nat → Int32, ¬ s a ≤ t a → post (c, lv, li, w, a1, a2, a3, a4, a5, a6, a7, a8, a9, a10, a11, a12, a13, a14, s, t, a17)) : wX_copyRanges_15 post (nI a) (nI b) (- nI k) 0 c lv li w a1 a2 a3 a4 a5 a6 a7 a8 a9 a10 a11 a12 a13 a14 a15 a16 a17 := by
  have v := av_v10 k hk hk1
  have K80 : ∀ s t, wX_copyRanges_80 post (nI a) 0 (- nI k) c lv li w a1 a2 a3 a4 a5 a6 a7 a8 a9 a10 a11 a12 a13 a14 s t a17 := fun s t => av_setR ha (H _ _ (by rw [pk_us, pk_us]; exact v.2.2))
  have K57 : wX_copyRanges_57 post (nI a) (nI b) (- nI k) 0 (- nI k) c lv li w a1 a2 a3 a4 a5 a6 a7 a8 a9 a10 a11 a12 a13 a14 a15 a16 a17 :=
    pk_le 3 b (fun _ => K80 _ _) (fun hb3 => pk_eq b a (fun _ => K80 _ _) (fun _ => av_setR hb3 (K80 _ _)))
  have K34 : wX_copyRanges_34 post (nI a) (nI b) (- nI k) (- nI k) 0 c lv li w a1 a2 a3 a4 a5 a6 a7 a8 a9 a10 a11 a12 a13 a14 a15 a16 a17 := nm_r (av_z1 (- nI k)) (br_f v.1 (br_t v.2.1 K57))
  refine nm_r (av_z1 (- nI k)) (pk_eq b 3 (fun _ => K34) (fun hb3 => ⟨pk_in b 3 (by omega), ?_⟩))
  rw [(av_N2_0 hN (show b < 3 by omega)).2]
  exact K34
theorem av_aR_cpyd {a b k z : Nat} (ha : a < 3) (hb : b < 4) (hk : k < 8) (hk1 : 1 ≤ k) (hN : av_N2 a15 a16 z 0 0) (H : ∀ s t, post (c, lv, 0, w, a1, a2, a3, a4, a5, a6, a7, a8, a9, a10, a11, a12, a13, a14, s, t, a17)) : wpX_applyToRanges post (c, lv, li, w, a1, a2, a3, a4, a5, a6, a7, a8, a9, a10, a11, a12, a13, a14, a15, a16, a17) 1 (nI a) (nI b) (- nI k) := by
  refine br_f (by decide) (br_f (by decide) (br_t rfl ?_))
  have K : ∀ s t : Nat → Int32, ¬ s a ≤ t a → ∃ n, wX_applyToRanges_59 post c lv w a1 a2 a3 a4 a5 a6 a7 a8 a9 a10 a11 a12 a13 a14 s t a17 n 0 li := fun s t hs => av_r59d (Or.inr ⟨a, ha, hs⟩) (H s t)
  refine pk_eq b 3 (fun _ => av_cr15d ha hb hk hk1 hN K) (fun hb3 => ⟨pk_in b 3 (by omega), ?_⟩)
  rw [(av_N2_0 hN (show b < 3 by omega)).1]
  exact av_cr15d ha hb hk hk1 hN K
/-! less -/
theorem av_lr15 {a b k z : Nat} (ha : a < 4) (hb : b < 4) (hk : k < 8) (hN : av_N2 a15 a16 z 0 0) (H : post (c, lv, li, w, a1, a2, a3, a4, a5, a6, a7, a8, a9, a10, a11, a12, a13, a14, a15, a16, a17)) : wX_lessRanges_15 post (nI a) (nI b) (nI k) 0 c lv li w a1 a2 a3 a4 a5 a6 a7 a8 a9 a10 a11 a12 a13 a14 a15 a16 a17 := by
  have v := av_v8 k hk
  refine nm_r (av_z1 (nI k)) ?_
  have K98 : wX_lessRanges_98 post (nI b) (0 - nI k) c lv li w a1 a2 a3 a4 a5 a6 a7 a8 a9 a10 a11 a12 a13 a14 a15 a16 a17 := pk_eq b 3 (fun _ => br_t v H) (fun _ => H)
  have K88 : wX_lessRanges_88 post (nI a) (nI b) (nI k) (0 - nI k) c lv li w a1 a2 a3 a4 a5 a6 a7 a8 a9 a10 a11 a12 a13 a14 a15 a16 a17 := pk_eq a 3 (fun _ => pk_lt k 0 (fun z => absurd z (by omega)) (fun _ => K98)) (fun _ => K98)
  have K63 : wX_lessRanges_63 post (nI a) (nI b) (nI k) (0 - nI k) c lv li w a1 a2 a3 a4 a5 a6 a7 a8 a9 a10 a11 a12 a13 a14 a15 a16 a17 := by
    refine pk_le 3 b (fun _ => K88) (fun hb3 => ⟨pk_in b 3 hb3, ?_⟩)
    rw [(av_N2_0 hN hb3).1]
    exact br_t v K88
  have K34 : wX_lessRanges_34 post (nI a) (nI b) (nI k) (nI k) 0 c lv li w a1 a2 a3 a4 a5 a6 a7 a8 a9 a10 a11 a12 a13 a14 a15 a16 a17 := by
    refine nm_e (pk_le 3 a (fun _ => K63) (fun ha3 => ⟨pk_in a 3 ha3, ?_⟩))
    rw [(av_N2_0 hN ha3).2]
    exact br_t (nI_pos' (by omega)) K63
  refine pk_eq a 3 (fun _ => K34) (fun ha3 => ⟨pk_in a 3 (by omega), ?_⟩)
  rw [(av_N2_0 hN (show a < 3 by omega)).1]
  exact K34
theorem av_aR_less {a b k z : Nat} (ha : a < 4) (hb : b < 4) (hk : k < 8) (hN : av_N2 a15 a16 z 0 0) (H : post (c, lv, li, w, a1, a2, a3, a4, a5, a6, a7, a8, a9, a10, a11, a12, a13, a14, a15, a16, a17)) : wpX_applyToRanges post (c, lv, li, w, a1, a2, a3, a4, a5, a6, a7, a8, a9, a10, a11, a12, a13, a14, a15, a16, a17) 3 (nI a) (nI b) (nI k) := by
  refine br_f (by decide) (br_f (by decide) (br_f (by decide) ?_))
  have K : ∃ n, wX_applyToRanges_59 post c lv w a1 a2 a3 a4 a5 a6 a7 a8 a9 a10 a11 a12 a13 a14 a15 a16 a17 n 0 li := av_r59 (av_N2le (Nat.le_refl 0) (by omega) hN) H
  refine pk_eq b 3 (fun _ => av_lr15 ha hb hk hN K) (fun hb3 => ⟨pk_in b 3 (by omega), ?_⟩)
  rw [(av_N2_0 hN (show b < 3 by omega)).2]
  exact av_lr15 ha hb hk hN K
theorem av_v11 : ∀ k, k < 8 → 1 ≤ k → - nI k < 0 ∧ ¬ (0 : Int32) ≤ - nI k ∧ ¬ (0 : Int32) - - nI k ≤ 0 ∧ ¬ (0 : Int32) ≤ (- nI k).toInt8.toInt32 := by decide +kernel
theorem av_lr63d {a b k : Nat} (ha : a < 4) (hb : b < 4) (hab : a ≠ b) (hk : k < 8) (hk1 : 1 ≤ k) (hz : a < 3 → ¬ a15 a ≤ a16 a) (H : ∀ m (s t : Nat → Int32), (m = 0 ∨ ∃ j, j < 3 ∧ ¬ s j ≤ t j) → post (c, lv, m, w, a1, a2, a3, a4, a5, a6, a7, a8, a9, a10, a11, a12, a13, a14, s, t, a17)) : wX_lessRanges_63 post (nI a) (nI b) (- nI k) (0 - - nI k) c lv li w a1 a2 a3 a4 a5 a6 a7 a8 a9 a10 a11 a12 a13 a14 a15 a16 a17 := by
  have v := av_v11 k hk hk1
  have K88 : ∀ s, (a < 3 → s a = a15 a) → wX_lessRanges_88 post (nI a) (nI b) (- nI k) (0 - - nI k) c lv li w a1 a2 a3 a4 a5 a6 a7 a8 a9 a10 a11 a12 a13 a14 s a16 a17 := by
    intro s hs
    refine pk_eq a 3 (fun _ => br_t v.1 (H _ _ _ (Or.inl rfl))) (fun h3 => pk_eq b 3 (fun _ => br_f v.2.2.1 (H _ _ _ (Or.inl rfl))) (fun _ => H _ _ _ (Or.inr ⟨a, by omega, ?_⟩)))
    rw [hs (by omega)]
    exact hz (by omega)
  refine pk_le 3 b (fun _ => K88 _ (fun _ => rfl)) (fun hb3 => ⟨pk_in b 3 hb3, br_c (fun _ => K88 _ (fun _ => rfl)) (fun _ => ⟨pk_in b 3 hb3, nm_e (K88 _ (fun h3 => ?_))⟩)⟩)
  rw [nI_clamp (show b < 2 ^ 31 by omega), pk_un hab]
theorem av_lr15d {a b k z : Nat} (ha : a < 4) (hb : b < 4) (hab : a ≠ b) (hk : k < 8) (hk1 : 1 ≤ k) (hN : av_N2 a15 a16 z 0 0) (H : ∀ m (s t : Nat → Int32), (m = 0 ∨ ∃ j, j < 3 ∧ ¬ s j ≤ t j) → post (c, lv, m, w, a1, a2, a3, a4, a5, a6, a7, a8, a9, a10, a11, a12, a13, a14, s, t, a17)) : wX_lessRanges_15 post (nI a) (nI b) (- nI k) 0 c lv li w a1 a2 a3 a4 a5 a6 a7 a8 a9 a10 a11 a12 a13 a14 a15 a16 a17 := by
  have v := av_v11 k hk hk1
  have K34 : wX_lessRanges_34 post (nI a) (nI b) (- nI k) (- nI k) 0 c lv li w a1 a2 a3 a4 a5 a6 a7 a8 a9 a10 a11 a12 a13 a14 a15 a16 a17 := by
    refine nm_e (pk_le 3 a (fun h3 => av_lr63d ha hb hab hk hk1 (fun z3 => absurd z3 (by omega)) H) (fun ha3 => ⟨pk_in a 3 ha3, ?_⟩))
    rw [(av_N2_0 hN ha3).2]
    refine br_f v.2.1 ⟨pk_in a 3 ha3, nm_e (av_lr63d ha hb hab hk hk1 (fun _ => ?_) H)⟩
    have e := (av_N2_0 hN ha3).1
    rw [nI_clamp (show a < 2 ^ 31 by omega)] at e
    rw [nI_clamp (show a < 2 ^ 31 by omega), pk_us, e]
    exact v.2.2.2
  refine nm_r (av_z1 (- nI k)) (pk_eq a 3 (fun _ => K34) (fun ha3 => ⟨pk_in a 3 (by omega), ?_⟩))
  rw [(av_N2_0 hN (show a < 3 by omega)).1]
  exact K34
theorem av_aR_lessd {a b k z : Nat} (ha : a < 4) (hb : b < 4) (hab : a ≠ b) (hk : k < 8) (hk1 : 1 ≤ k) (hN : av_N2 a15 a16 z 0 0) (H : ∀ s t, post (c, lv, 0, w, a1, a2, a3, a4, a5, a6, a7, a8, a9, a10, a11, a12, a13, a14, s, t, a17)) : wpX_applyToRanges post (c, lv, li, w, a1, a2, a3, a4, a5, a6, a7, a8, a9, a10, a11, a12, a13, a14, a15, a16, a17) 3 (nI a) (nI b) (- nI k) := by
  refine br_f (by decide) (br_f (by decide) (br_f (by decide) ?_))
  have K : ∀ m (s t : Nat → Int32), (m = 0 ∨ ∃ j, j < 3 ∧ ¬ s j ≤ t j) → ∃ n, wX_applyToRanges_59 post c lv w a1 a2 a3 a4 a5 a6 a7 a8 a9 a10 a11 a12 a13 a14 s t a17 n 0 m := fun m s t hs => av_r59d hs (H s t)
  refine pk_eq b 3 (fun _ => av_lr15d ha hb hab hk hk1 hN K) (fun hb3 => ⟨pk_in b 3 (by omega), ?_⟩)
  rw [(av_N2_0 hN (show b < 3 by omega)).2]
  exact av_lr15d ha hb hab hk hk1 hN K
end
section
variable {c lv li w : Int32} {a1 a2 a3 a4 a5 a6 : Nat → Int32} {a7 : Nat → Int64} {a8 a9 a10 a11 : Nat → Int32} {a12 a13 : Nat → Int64} {a14 a15 a16 a17 : Nat → Int32}
variable {post : St2 → Prop}
/-- the differences while row a and column a are being rewritten: up to i -/
def av_I (a l h i : Nat) (s : Nat → Int32) : Prop := ∀ x, x < 4 → ∀ y, y < 4 → s (4 * x + y) = if x = a ∧ y ≠ a ∧ y < i then nI h else if y = a ∧ x ≠ a ∧ x < i then 0 - nI l else 0
theorem av_I0 {z a l h : Nat} (hN : av_N3 a17 z 0 0) : av_I a l h 0 a17 := by
  intro x hx y hy
  rw [hN x hx y hy, av_B0, if_neg (by omega), if_neg (by omega)]
theorem av_I4 {a l h : Nat} {s : Nat → Int32} (ha : a < 3) (hI : av_I a l h 4 s) : av_N3 s a l h := by
  intro x hx y hy
  rw [hI x hx y hy]
  unfold av_B
  by_cases e : x = y
  · rw [if_pos e, if_neg (by omega), if_neg (by omega)]
  · rw [if_neg e]
    by_cases ex : x = a
    · rw [if_pos (show x = a ∧ y ≠ a ∧ y < 4 by omega), ex, av_lo_s, av_lo_o (by omega), nI_0, Int32.sub_zero]
    · rw [if_neg (show ¬ (x = a ∧ y ≠ a ∧ y < 4) by omega), av_lo_o ex, nI_0]
      by_cases ey : y = a
      · rw [if_pos (show y = a ∧ x ≠ a ∧ x < 4 by omega), ey, av_lo_s]
      · rw [if_neg (show ¬ (y = a ∧ x ≠ a ∧ x < 4) by omega), av_lo_o ey, nI_0]
        rfl
theorem av_Ik {a l h : Nat} {s : Nat → Int32} (hI : av_I a l h a s) : av_I a l h (a + 1) s := by
  intro x hx y hy
  rw [hI x hx y hy]
  by_cases e1 : x = a ∧ y ≠ a ∧ y < a
  · rw [if_pos e1, if_pos (show x = a ∧ y ≠ a ∧ y < a + 1 by omega)]
  · rw [if_neg e1, if_neg (show ¬ (x = a ∧ y ≠ a ∧ y < a + 1) by omega)]
    by_cases e2 : y = a ∧ x ≠ a ∧ x < a
    · rw [if_pos e2, if_pos (show y = a ∧ x ≠ a ∧ x < a + 1 by omega)]
    · rw [if_neg e2, if_neg (show ¬ (y = a ∧ x ≠ a ∧ x < a + 1) by omega)]
theorem av_Is {a l h i : Nat} {s : Nat → Int32} {x1 x2 : Int32} (ha : a < 4) (hi : i < 4) (hia : i ≠ a) (hI : av_I a l h i s) (h1 : x1 = nI h) (h2 : x2 = 0 - nI l) : av_I a l h (i + 1) (upd (upd s (4 * a + i) x1) (4 * i + a) x2) := by
  intro x hx y hy
  by_cases e2 : 4 * x + y = 4 * i + a
  · rw [e2, pk_us, if_neg (by omega), if_pos (by omega)]
    exact h2
  · rw [pk_un e2]
    by_cases e1 : 4 * x + y = 4 * a + i
    · rw [e1, pk_us, if_pos (by omega)]
      exact h1
    · rw [pk_un e1, hI x hx y hy]
      by_cases f1 : x = a ∧ y ≠ a ∧ y < i
      · rw [if_pos f1, if_pos (show x = a ∧ y ≠ a ∧ y < i + 1 by omega)]
      · rw [if_neg f1, if_neg (show ¬ (x = a ∧ y ≠ a ∧ y < i + 1) by omega)]
        by_cases f2 : y = a ∧ x ≠ a ∧ x < i
        · rw [if_pos f2, if_pos (show y = a ∧ x ≠ a ∧ x < i + 1 by omega)]
        · rw [if_neg f2, if_neg (show ¬ (y = a ∧ x ≠ a ∧ x < i + 1) by omega)]
theorem av_Ir {a l h i x y : Nat} {s : Nat → Int32} (hx : x < 4) (hy : y < 4) (hI : av_I a l h i s) (h1 : ¬ (x = a ∧ y ≠ a ∧ y < i)) (h2 : ¬ (y = a ∧ x ≠ a ∧ x < i)) : s (4 * x + y) = 0 := by
  rw [hI x hx y hy, if_neg h1, if_neg h2]
theorem av_v12 : ∀ k, k < 8 → (nI k + 0).toInt8.toInt32 = nI k ∧ (0 - nI k).toInt8.toInt32 = 0 - nI k ∧ (0 + nI k).toInt8.toInt32 = nI k := by decide +kernel
theorem av_place {a b k z : Nat} (ha : a < 3) (hb : b < 4) (hab : a ≠ b) (hk : k < 8) (hN : av_N3 a17 z 0 0) (H : ∀ s, av_N3 s a k k → post (c, lv, li, w, a1, a2, a3, a4, a5, a6, a7, a8, a9, a10, a11, a12, a13, a14, a15, a16, s)) : wpX_place post (c, lv, li, w, a1, a2, a3, a4, a5, a6, a7, a8, a9, a10, a11, a12, a13, a14, a15, a16, a17) (nI a) (nI b) (nI k) := by
  have v := av_v12 k hk
  refine pk_loop (fun n i s => wX_place_3 post (nI a) (nI b) (nI k) c lv li w n (nI i) a1 a2 a3 a4 a5 a6 a7 a8 a9 a10 a11 a12 a13 a14 a15 a16 s) (fun i s => av_I a k k i s) 4 0 a17 (by omega) (av_I0 hN)
    (fun n s h => pk_le 4 4 (fun _ => H s (av_I4 ha h)) (fun z => absurd z (by omega))) ?_
  intro n i s hi h hw
  refine pk_le 4 i (fun z => absurd z (by omega)) (fun _ => pk_eq i a (fun e => nm_r (nI_1 i) (hw _ ?_)) (fun e => ⟨pk_in (4 * b + i) 16 (by omega) (av_ix (M := 4) 4 b i), pk_in (4 * a + i) 16 (by omega) (av_ix (M := 4) 4 a i), nm_e ⟨pk_in (4 * i + b) 16 (by omega) (av_ix (M := 4) 4 i b), pk_in (4 * i + a) 16 (by omega) (av_ix (M := 4) 4 i a), nm_e (nm_r (nI_1 i) (hw _ ?_))⟩⟩))
  · subst e
    exact av_Ik h
  · rw [av_clo (M := 4) 4 b i (by omega), av_clo (M := 4) 4 a i (by omega), av_clo (M := 4) 4 i b (by omega), av_clo (M := 4) 4 i a (by omega), pk_un (show 4 * i + b ≠ 4 * a + i by omega), av_Ir hb hi h (by omega) (by omega), av_Ir hi hb h (by omega) (by omega)]
    exact av_Is (by omega) hi e h v.1 v.2.1
theorem av_move {a k z : Nat} (ha : a < 3) (hk : k < 8) (hN : av_N3 a17 z 0 0) (H : ∀ s, av_N3 s a k k → post (c, lv, li, w, a1, a2, a3, a4, a5, a6, a7, a8, a9, a10, a11, a12, a13, a14, a15, a16, s)) : wpX_moveAlong post (c, lv, li, w, a1, a2, a3, a4, a5, a6, a7, a8, a9, a10, a11, a12, a13, a14, a15, a16, a17) (nI a) (nI k) := by
  have v := av_v12 k hk
  refine pk_loop (fun n i s => wX_moveAlong_2 post (nI a) (nI k) c lv li w n (nI i) a1 a2 a3 a4 a5 a6 a7 a8 a9 a10 a11 a12 a13 a14 a15 a16 s) (fun i s => av_I a k k i s) 4 0 a17 (by omega) (av_I0 hN)
    (fun n s h => pk_le 4 4 (fun _ => H s (av_I4 ha h)) (fun z => absurd z (by omega))) ?_
  intro n i s hi h hw
  refine pk_le 4 i (fun z => absurd z (by omega)) (fun _ => pk_eq i a (fun e => nm_r (nI_1 i) (hw _ ?_)) (fun e => ⟨pk_in (4 * a + i) 16 (by omega) (av_ix (M := 4) 4 a i), pk_in (4 * a + i) 16 (by omega) (av_ix (M := 4) 4 a i), nm_e ⟨pk_in (4 * i + a) 16 (by omega) (av_ix (M := 4) 4 i a), pk_in (4 * i + a) 16 (by omega) (av_ix (M := 4) 4 i a), nm_e (nm_r (nI_1 i) (hw _ ?_))⟩⟩))
  · subst e
    exact av_Ik h
  · rw [av_clo (M := 4) 4 a i (by omega), av_clo (M := 4) 4 i a (by omega), pk_un (show 4 * i + a ≠ 4 * a + i by omega), av_Ir (show a < 4 by omega) hi h (by omega) (by omega), av_Ir hi (show a < 4 by omega) h (by omega) (by omega)]
    exact av_Is (by omega) hi e h v.2.2 v.2.1
theorem av_aB_any {a z : Nat} {B C : Int32} (ha : a < 3) (hN : av_N3 a17 z 0 0) (H : ∀ s, av_N3 s a 0 7 → post (c, lv, li, w, a1, a2, a3, a4, a5, a6, a7, a8, a9, a10, a11, a12, a13, a14, a15, a16, s)) : wpX_applyToBounds post (c, lv, li, w, a1, a2, a3, a4, a5, a6, a7, a8, a9, a10, a11, a12, a13, a14, a15, a16, a17) 2 (nI a) B C := by
  refine br_f (by decide) (br_t rfl ?_)
  refine pk_loop (fun n i s => wX_applyToBounds_21 post (nI a) c lv li w n (nI i) a1 a2 a3 a4 a5 a6 a7 a8 a9 a10 a11 a12 a13 a14 a15 a16 s) (fun i s => av_I a 0 7 i s) 4 0 a17 (by omega) (av_I0 hN)
    (fun n s h => pk_le 4 4 (fun _ => H s (av_I4 ha h)) (fun z => absurd z (by omega))) ?_
  intro n i s hi h hw
  have e12 : (12 : Int32) + nI i = nI (4 * 3 + i) := nI_add 12 i
  have e3 : (4 : Int32) * nI i + 3 = nI (4 * i + 3) := av_ix (M := 4) 4 i 3
  refine pk_le 4 i (fun z => absurd z (by omega)) (fun _ => pk_eq i a (fun e => nm_r (nI_1 i) (hw _ ?_)) (fun e => ⟨pk_in (4 * 3 + i) 16 (by omega) e12, pk_in (4 * a + i) 16 (by omega) (av_ix (M := 4) 4 a i), nm_e ⟨pk_in (4 * i + 3) 16 (by omega) e3, pk_in (4 * i + a) 16 (by omega) (av_ix (M := 4) 4 i a), nm_e (nm_r (nI_1 i) (hw _ ?_))⟩⟩))
  · subst e
    exact av_Ik h
  · rw [e12, e3, nI_clamp (show 4 * 3 + i < 2 ^ 31 by omega), nI_clamp (show 4 * i + 3 < 2 ^ 31 by omega), av_clo (M := 4) 4 a i (by omega), av_clo (M := 4) 4 i a (by omega), pk_un (show 4 * i + 3 ≠ 4 * a + i by omega), av_Ir (show 3 < 4 by omega) hi h (by omega) (by omega), av_Ir hi (show 3 < 4 by omega) h (by omega) (by omega)]
    exact av_Is (by omega) hi e h (by decide +kernel) (by decide +kernel)
theorem av_N3_0 {z x y : Nat} (hN : av_N3 a17 z 0 0) (hx : x < 4) (hy : y < 4) : a17 ((4 : Int32) * nI x + nI y).toNatClampNeg = 0 := by
  rw [av_clo (M := 4) 4 x y (by omega), hN x hx y hy, av_B0]
theorem av_limit {a b z : Nat} {C : Int32} (ha : a < 4) (hb : b < 4) (hC : ¬ C < 0) (hN : av_N3 a17 z 0 0) (H : post (c, lv, li, w, a1, a2, a3, a4, a5, a6, a7, a8, a9, a10, a11, a12, a13, a14, a15, a16, a17)) : wpX_limit post (c, lv, li, w, a1, a2, a3, a4, a5, a6, a7, a8, a9, a10, a11, a12, a13, a14, a15, a16, a17) (nI a) (nI b) C := by
  refine And.intro (pk_in (4 * a + b) 16 (by omega) (av_ix (M := 4) 4 a b)) ?_
  rw [av_N3_0 hN ha hb]
  exact br_f hC H
theorem av_limitd {a b k z : Nat} (ha : a < 4) (hb : b < 4) (hk : k < 8) (hk1 : 1 ≤ k) (hN : av_N3 a17 z 0 0) (H : post (c, lv, 0, w, a1, a2, a3, a4, a5, a6, a7, a8, a9, a10, a11, a12, a13, a14, a15, a16, a17)) : wpX_limit post (c, lv, li, w, a1, a2, a3, a4, a5, a6, a7, a8, a9, a10, a11, a12, a13, a14, a15, a16, a17) (nI a) (nI b) (- nI k) := by
  refine And.intro (pk_in (4 * a + b) 16 (by omega) (av_ix (M := 4) 4 a b)) ?_
  rw [av_N3_0 hN ha hb, av_N3_0 hN hb ha]
  refine br_t (av_v11 k hk hk1).1 ⟨pk_in (4 * b + a) 16 (by omega) (av_ix (M := 4) 4 b a), br_f ?_ H⟩
  rw [Int32.add_zero]
  exact (av_v11 k hk hk1).2.1
theorem av_aB_set {a k z : Nat} {B : Int32} (ha : a < 3) (hk : k < 8) (hN : av_N3 a17 z 0 0) (H : ∀ s, av_N3 s a k k → post (c, lv, li, w, a1, a2, a3, a4, a5, a6, a7, a8, a9, a10, a11, a12, a13, a14, a15, a16, s)) : wpX_applyToBounds post (c, lv, li, w, a1, a2, a3, a4, a5, a6, a7, a8, a9, a10, a11, a12, a13, a14, a15, a16, a17) 0 (nI a) B (nI k) :=
  br_t rfl (av_place (b := 3) ha (by omega) (by omega) hk hN H)
theorem av_aB_less {a b k z : Nat} (ha : a < 4) (hb : b < 4) (hk : k < 8) (hN : av_N3 a17 z 0 0) (H : post (c, lv, li, w, a1, a2, a3, a4, a5, a6, a7, a8, a9, a10, a11, a12, a13, a14, a15, a16, a17)) : wpX_applyToBounds post (c, lv, li, w, a1, a2, a3, a4, a5, a6, a7, a8, a9, a10, a11, a12, a13, a14, a15, a16, a17) 3 (nI a) (nI b) (nI k) :=
  br_f (by decide) (br_f (by decide) (br_t rfl (av_limit ha hb (nI_pos (by omega)) hN H)))
theorem av_aB_lessd {a b k z : Nat} (ha : a < 4) (hb : b < 4) (hk : k < 8) (hk1 : 1 ≤ k) (hN : av_N3 a17 z 0 0) (H : post (c, lv, 0, w, a1, a2, a3, a4, a5, a6, a7, a8, a9, a10, a11, a12, a13, a14, a15, a16, a17)) : wpX_applyToBounds post (c, lv, li, w, a1, a2, a3, a4, a5, a6, a7, a8, a9, a10, a11, a12, a13, a14, a15, a16, a17) 3 (nI a) (nI b) (- nI k) :=
  br_f (by decide) (br_f (by decide) (br_t rfl (av_limitd ha hb hk hk1 hN H)))
theorem av_v13 : ∀ k, k < 8 → ¬ (7 : Int32) - nI k < 0 ∧ ¬ (7 : Int32) - - nI k < 0 := by decide +kernel
theorem av_aB_cpy {a b k z : Nat} (hli : ¬ li = 0) (ha : a < 3) (hb : b < 4) (hk : k < 8) (hN : av_N3 a17 z 0 0) (H : ∀ s, av_N3 s a k k → post (c, lv, li, w, a1, a2, a3, a4, a5, a6, a7, a8, a9, a10, a11, a12, a13, a14, a15, a16, s)) : wpX_applyToBounds post (c, lv, li, w, a1, a2, a3, a4, a5, a6, a7, a8, a9, a10, a11, a12, a13, a14, a15, a16, a17) 1 (nI a) (nI b) (nI k) := by
  refine br_f (by decide) (br_f (by decide) (br_f (by decide) ?_))
  refine pk_eq b 3 (fun _ => br_t (nI_pos' (by omega)) (av_place (b := 3) ha (by omega) (by omega) hk hN H)) (fun hb3 => ?_)
  refine av_limit (b := 3) hb (by omega) (av_v13 k hk).1 hN ?_
  refine br_f hli (av_limit (a := 3) (by omega) hb (nI_pos (by omega)) hN ?_)
  exact br_f hli (pk_eq a b (fun e => br_f hli (av_move ha hk hN H)) (fun e => av_place ha hb e hk hN H))
theorem av_aB_cpyd {a b k z : Nat} (hli : ¬ li = 0) (ha : a < 3) (hb : b < 4) (hk : k < 8) (hk1 : 1 ≤ k) (hN : av_N3 a17 z 0 0) (H : post (c, lv, 0, w, a1, a2, a3, a4, a5, a6, a7, a8, a9, a10, a11, a12, a13, a14, a15, a16, a17)) : wpX_applyToBounds post (c, lv, li, w, a1, a2, a3, a4, a5, a6, a7, a8, a9, a10, a11, a12, a13, a14, a15, a16, a17) 1 (nI a) (nI b) (- nI k) := by
  refine br_f (by decide) (br_f (by decide) (br_f (by decide) ?_))
  refine pk_eq b 3 (fun _ => br_f (av_v11 k hk hk1).2.1 H) (fun hb3 => ?_)
  refine av_limit (b := 3) hb (by omega) (av_v13 k hk).2 hN ?_
  refine br_f hli (av_limitd (a := 3) (by omega) hb hk hk1 hN ?_)
  exact br_t rfl (br_t rfl H)
end
section
variable {c lv li w : Int32} {a1 a2 a3 a4 a5 a6 : Nat → Int32} {a7 : Nat → Int64} {a8 a9 a10 a11 : Nat → Int32} {a12 a13 : Nat → Int64} {a14 a15 a16 a17 : Nat → Int32}
variable {post : St2 → Prop}
theorem av_v14 : ∀ v, v < 3 → ((((3 : Int32) * nI v) &&& 31).toBitVec.smod 32).toNat = 3 * v := by decide +kernel
theorem av_val3 {s v : Nat} (hs : s < 512) (hv : v < 3) : (nI s >>> (((3 : Int32) * nI v) &&& 31)) &&& 7 = nI (av_v s v) := by
  have h1 : s / 2 ^ (3 * v) ≤ s := Nat.div_le_self _ _
  rw [pk_shrN (by omega) _ (3 * v) (av_v14 v hv), pk_andN (m := 7) (by omega) 3 (by decide)]
  unfold av_v
  rw [if_neg (by omega), Nat.pow_mul]
theorem av_value {post : Int32 → Prop} {s v : Nat} (hs : s < 512) (hv : v < 4) (H : post (nI (av_v s v))) : wpX_valueIn post (c, lv, li, w, a1, a2, a3, a4, a5, a6, a7, a8, a9, a10, a11, a12, a13, a14, a15, a16, a17) (nI s) (nI v) := by
  refine pk_eq v 3 (fun e => ?_) (fun e => ?_)
  · subst e
    exact H
  · rw [av_val3 hs (by omega)]
    exact H
theorem av_v0 (v : Nat) : av_v 0 v = 0 := by
  unfold av_v
  split
  · rfl
  · rw [Nat.zero_div]
theorem av_addS {t : Nat} {f : Nat → Bool} (ht : t < 512) (hf : ∀ s, s < 512 → av_bt (a12 (s / 64)) (s % 64) = f s) (H : ∀ s12, (∀ s, s < 512 → av_bt (s12 (s / 64)) (s % 64) = (f s || decide (s = t))) → post (c, lv, 1, w, a1, a2, a3, a4, a5, a6, a7, a8, a9, a10, a11, s12, a13, a14, a15, a16, a17)) : wpX_addState post (c, lv, li, w, a1, a2, a3, a4, a5, a6, a7, a8, a9, a10, a11, a12, a13, a14, a15, a16, a17) (nI t) := by
  have e := av_s6 ht
  refine And.intro (pk_in (t / 64) 8 (by omega) e) ⟨pk_in (t / 64) 8 (by omega) e, nm_e (H _ (fun s hs => ?_))⟩
  rw [e, nI_clamp (show t / 64 < 2 ^ 31 by omega)]
  by_cases e1 : s / 64 = t / 64
  · have g := hf s hs
    rw [e1] at g
    rw [e1, pk_uLs, av_add ht (by omega), g]
    congr 1
    exact decide_eq_decide.mpr (by omega)
  · rw [pk_uLn e1, hf s hs, decide_eq_false (show ¬ s = t by omega), Bool.or_false]
/-! changeState of the state 0 -/
theorem av_v15 : ∀ a, a < 3 → nI 0 &&& (((7 : Int32) <<< (((3 : Int32) * nI a) &&& 31)) ^^^ (-1)) = 0 := by decide +kernel
theorem av_v16 : ∀ a, a < 3 → ∀ k, k < 8 → (0 : Int32) ||| (nI k <<< (((3 : Int32) * nI a) &&& 31)) = nI (k * 8 ^ a) ∧ k * 8 ^ a < 512 := by decide +kernel
theorem av_ch1 {a k : Nat} {f : Nat → Bool} (ha : a < 3) (hk : k < 8) (hf : ∀ s, s < 512 → av_bt (a12 (s / 64)) (s % 64) = f s) (H : ∀ s12, (∀ s, s < 512 → av_bt (s12 (s / 64)) (s % 64) = (f s || decide (s = k * 8 ^ a))) → post (c, lv, 1, w, a1, a2, a3, a4, a5, a6, a7, a8, a9, a10, a11, s12, a13, a14, a15, a16, a17)) : ∃ n, wX_changeState_90 post (nI a) (nI k) 0 n (nI k) c lv li w a1 a2 a3 a4 a5 a6 a7 a8 a9 a10 a11 a12 a13 a14 a15 a16 a17 := by
  refine ⟨2, pk_lt k k (fun z => absurd z (by omega)) (fun _ => br_f (nI_pos (by omega)) (pk_lt 7 k (fun z => absurd z (by omega)) (fun _ => ?_)))⟩
  rw [(av_v16 a ha k hk).1]
  exact av_addS (av_v16 a ha k hk).2 hf (fun s12 h => nm_r (nI_1 k) (pk_lt k (k + 1) (fun _ => H s12 h) (fun z => absurd z (by omega))))
theorem av_ch8 {a : Nat} (ha : a < 3) (hf : ∀ s, s < 512 → av_bt (a12 (s / 64)) (s % 64) = false) (H : ∀ m s12, m = 1 → (∀ s, s < 512 → av_bt (s12 (s / 64)) (s % 64) = av_e a 8 s) → post (c, lv, m, w, a1, a2, a3, a4, a5, a6, a7, a8, a9, a10, a11, s12, a13, a14, a15, a16, a17)) : ∃ n, wX_changeState_90 post (nI a) 7 0 n 0 c lv li w a1 a2 a3 a4 a5 a6 a7 a8 a9 a10 a11 a12 a13 a14 a15 a16 a17 := by
  refine pk_loop (fun n i (s : Int32 × (Nat → Int64)) => wX_changeState_90 post (nI a) 7 0 n (nI i) c lv s.1 w a1 a2 a3 a4 a5 a6 a7 a8 a9 a10 a11 s.2 a13 a14 a15 a16 a17) (fun i s => (0 < i → s.1 = 1) ∧ ∀ t, t < 512 → av_bt (s.2 (t / 64)) (t % 64) = av_e a i t) 8 0 (li, a12) (by omega) ⟨fun z => absurd z (by omega), hf⟩
    (fun n s h => pk_lt 7 8 (fun _ => H s.1 s.2 (h.1 (by omega)) h.2) (fun z => absurd z (by omega))) ?_
  intro n i s hi h hw
  refine pk_lt 7 i (fun z => absurd z (by omega)) (fun _ => br_f (nI_pos (by omega)) (pk_lt 7 i (fun z => absurd z (by omega)) (fun _ => ?_)))
  rw [(av_v16 a ha i hi).1]
  exact av_addS (av_v16 a ha i hi).2 h.2 (fun s12 h12 => nm_r (nI_1 i) (hw (_, _) ⟨fun _ => rfl, h12⟩))
theorem av_cS_set {a k : Nat} {f : Nat → Bool} {B : Int32} (ha : a < 3) (hk : k < 8) (hf : ∀ s, s < 512 → av_bt (a12 (s / 64)) (s % 64) = f s) (H : ∀ s12, (∀ s, s < 512 → av_bt (s12 (s / 64)) (s % 64) = (f s || decide (s = k * 8 ^ a))) → post (c, lv, 1, w, a1, a2, a3, a4, a5, a6, a7, a8, a9, a10, a11, s12, a13, a14, a15, a16, a17)) : wpX_changeState post (c, lv, li, w, a1, a2, a3, a4, a5, a6, a7, a8, a9, a10, a11, a12, a13, a14, a15, a16, a17) (nI 0) 0 (nI a) B (nI k) :=
  br_f (by decide) (br_t rfl (br_f (by decide) (nm_r (av_v15 a ha) (av_ch1 ha hk hf H))))
theorem av_cS_any {a : Nat} {B C : Int32} (ha : a < 3) (hf : ∀ s, s < 512 → av_bt (a12 (s / 64)) (s % 64) = false) (H : ∀ m s12, m = 1 → (∀ s, s < 512 → av_bt (s12 (s / 64)) (s % 64) = av_e a 8 s) → post (c, lv, m, w, a1, a2, a3, a4, a5, a6, a7, a8, a9, a10, a11, s12, a13, a14, a15, a16, a17)) : wpX_changeState post (c, lv, li, w, a1, a2, a3, a4, a5, a6, a7, a8, a9, a10, a11, a12, a13, a14, a15, a16, a17) (nI 0) 2 (nI a) B C :=
  br_f (by decide) (br_f (by decide) (br_f (by decide) (br_t rfl (nm_r (av_v15 a ha) (av_ch8 ha hf H)))))
theorem av_cS_cpy {a b k : Nat} {f : Nat → Bool} (ha : a < 3) (hb : b < 4) (hk : k < 8) (hf : ∀ s, s < 512 → av_bt (a12 (s / 64)) (s % 64) = f s) (H : ∀ s12, (∀ s, s < 512 → av_bt (s12 (s / 64)) (s % 64) = (f s || decide (s = k * 8 ^ a))) → post (c, lv, 1, w, a1, a2, a3, a4, a5, a6, a7, a8, a9, a10, a11, s12, a13, a14, a15, a16, a17)) : wpX_changeState post (c, lv, li, w, a1, a2, a3, a4, a5, a6, a7, a8, a9, a10, a11, a12, a13, a14, a15, a16, a17) (nI 0) 1 (nI a) (nI b) (nI k) := by
  refine br_f (by decide) (br_f (by decide) (br_t rfl (av_value (by omega) hb ?_)))
  rw [av_v0, nI_0, av_z1]
  exact br_f (by decide) (nm_r (av_v15 a ha) (av_ch1 ha hk hf H))
theorem av_v17 : ∀ k, k < 8 → 1 ≤ k → - nI k < 0 ∧ ¬ - nI k < - nI k ∧ - nI k < - nI k + 1 := by decide +kernel
theorem av_cS_cpyd {a b k : Nat} (ha : a < 3) (hb : b < 4) (hk : k < 8) (hk1 : 1 ≤ k) (H : post (c, lv, li, w, a1, a2, a3, a4, a5, a6, a7, a8, a9, a10, a11, a12, a13, a14, a15, a16, a17)) : wpX_changeState post (c, lv, li, w, a1, a2, a3, a4, a5, a6, a7, a8, a9, a10, a11, a12, a13, a14, a15, a16, a17) (nI 0) 1 (nI a) (nI b) (- nI k) := by
  have v := av_v17 k hk hk1
  refine br_f (by decide) (br_f (by decide) (br_t rfl (av_value (by omega) hb ?_)))
  rw [av_v0, nI_0, av_z1]
  exact br_f (by decide) (nm_r (av_v15 a ha) ⟨2, br_f v.2.1 (br_t v.1 (nm_e (br_t v.2.2 H)))⟩)
theorem av_cS_less {a b k : Nat} {f : Nat → Bool} (ha : a < 4) (hb : b < 4) (hk : k < 8) (hf : ∀ s, s < 512 → av_bt (a12 (s / 64)) (s % 64) = f s) (H : ∀ s12, (∀ s, s < 512 → av_bt (s12 (s / 64)) (s % 64) = (f s || decide (s = 0))) → post (c, lv, 1, w, a1, a2, a3, a4, a5, a6, a7, a8, a9, a10, a11, s12, a13, a14, a15, a16, a17)) : wpX_changeState post (c, lv, li, w, a1, a2, a3, a4, a5, a6, a7, a8, a9, a10, a11, a12, a13, a14, a15, a16, a17) (nI 0) 3 (nI a) (nI b) (nI k) := by
  refine br_t rfl (av_value (by omega) ha (av_value (by omega) hb ?_))
  dsimp only
  rw [av_v0, av_v0, nI_0, av_z1]
  exact br_f (nI_pos (by omega)) (av_addS (t := 0) (by omega) hf H)
theorem av_cS_lessd {a b k : Nat} (ha : a < 4) (hb : b < 4) (hk : k < 8) (hk1 : 1 ≤ k) (H : post (c, lv, li, w, a1, a2, a3, a4, a5, a6, a7, a8, a9, a10, a11, a12, a13, a14, a15, a16, a17)) : wpX_changeState post (c, lv, li, w, a1, a2, a3, a4, a5, a6, a7, a8, a9, a10, a11, a12, a13, a14, a15, a16, a17) (nI 0) 3 (nI a) (nI b) (- nI k) := by
  refine br_t rfl (av_value (by omega) ha (av_value (by omega) hb ?_))
  dsimp only
  rw [av_v0, av_v0, nI_0, av_z1]
  exact br_t (av_v17 k hk hk1).1 H
/-! the walk over all states -/
theorem av_skip {x1 x2 x3 x4 : Int32} (h13 : ∀ s, 1 ≤ s → s < 512 → av_bt (a13 (s / 64)) (s % 64) = false) (H : post (c, lv, li, w, a1, a2, a3, a4, a5, a6, a7, a8, a9, a10, a11, a12, a13, a14, a15, a16, a17)) : ∀ d i, i + d = 512 → 1 ≤ i → wX_applyToStates_46 post x1 x2 x3 x4 (d + 1) (nI i) c lv li w a1 a2 a3 a4 a5 a6 a7 a8 a9 a10 a11 a12 a13 a14 a15 a16 a17 := by
  intro d
  induction d with
  | zero =>
    intro i hi h1
    exact pk_le 512 i (fun _ => H) (fun z => absurd z (by omega))
  | succ d ih =>
    intro i hi h1
    have e := av_s6 (s := i) (by omega)
    refine pk_le 512 i (fun z => absurd z (by omega)) (fun _ => ⟨pk_in (i / 64) 8 (by omega) e, br_t ?_ (nm_r (nI_1 i) (ih (i + 1) (by omega) (by omega)))⟩)
    rw [e, nI_clamp (show i / 64 < 2 ^ 31 by omega)]
    exact (av_ask (by omega)).mpr (h13 i h1 (by omega))
theorem av_46 {x1 x2 x3 x4 : Int32} {z : Nat} (Good : Int32 → (Nat → Int64) → Prop) (h13 : av_N0 a13 z 0 0)
    (C : ∀ (post' : St2 → Prop), (∀ m t, Good m t → post' (c, lv, m, w, a1, a2, a3, a4, a5, a6, a7, a8, a9, a10, a11, t, a13, a14, a15, a16, a17)) → wpX_changeState post' (c, lv, li, w, a1, a2, a3, a4, a5, a6, a7, a8, a9, a10, a11, a12, a13, a14, a15, a16, a17) (nI 0) x1 x2 x3 x4)
    (H : ∀ m t, Good m t → post (c, lv, m, w, a1, a2, a3, a4, a5, a6, a7, a8, a9, a10, a11, t, a13, a14, a15, a16, a17)) : ∃ n, wX_applyToStates_46 post x1 x2 x3 x4 n 0 c lv li w a1 a2 a3 a4 a5 a6 a7 a8 a9 a10 a11 a12 a13 a14 a15 a16 a17 := by
  have hz : ∀ s, s < 512 → av_bt (a13 (s / 64)) (s % 64) = decide (s = 0) := by
    intro s hs
    rw [h13 s hs, av_m_z (b := 0), av_m_pt 0 (by omega) 0 (by omega) s hs]
  have K : wX_applyToStates_46 post x1 x2 x3 x4 (512 + 1) (nI 0) c lv li w a1 a2 a3 a4 a5 a6 a7 a8 a9 a10 a11 a12 a13 a14 a15 a16 a17 := by
    refine pk_le 512 0 (fun z => absurd z (by omega)) (fun _ => ⟨pk_in 0 8 (by omega) (av_s6 (s := 0) (by omega)), br_f ?_ (C _ (fun m t g => nm_r (nI_1 0) (av_skip (fun s h1 h2 => ?_) (H m t g) 511 1 (by omega) (by omega))))⟩)
    · rw [av_s6 (s := 0) (by omega), nI_clamp (show 0 / 64 < 2 ^ 31 by omega)]
      intro g
      have g2 := (av_ask (s := 0) (by omega)).mp g
      rw [hz 0 (by omega)] at g2
      exact absurd g2 (by decide)
    · rw [hz s h2]
      exact decide_eq_false (by omega)
  exact ⟨513, K⟩
theorem av_aps {x1 x2 x3 x4 : Int32} {z : Nat} (Good : Int32 → (Nat → Int64) → Prop) (hN : av_N0 a12 z 0 0)
    (C : ∀ (post' : St2 → Prop) s12 s13, (∀ s, s < 512 → av_bt (s12 (s / 64)) (s % 64) = false) → (∀ m t, Good m t → post' (c, lv, m, w, a1, a2, a3, a4, a5, a6, a7, a8, a9, a10, a11, t, s13, a14, a15, a16, a17)) → wpX_changeState post' (c, lv, 0, w, a1, a2, a3, a4, a5, a6, a7, a8, a9, a10, a11, s12, s13, a14, a15, a16, a17) (nI 0) x1 x2 x3 x4)
    (H : ∀ m s12 s13, Good m s12 → post (c, lv, m, w, a1, a2, a3, a4, a5, a6, a7, a8, a9, a10, a11, s12, s13, a14, a15, a16, a17)) : wpX_applyToStates post (c, lv, li, w, a1, a2, a3, a4, a5, a6, a7, a8, a9, a10, a11, a12, a13, a14, a15, a16, a17) x1 x2 x3 x4 := by
  refine pk_loop (fun n i (s : (Nat → Int64) × (Nat → Int64)) => wX_applyToStates_3 post x1 x2 x3 x4 c lv li w n (nI i) a1 a2 a3 a4 a5 a6 a7 a8 a9 a10 a11 s.1 s.2 a14 a15 a16 a17) (fun i s => s.1 = av_fl a12 (fun _ => 0) 0 i ∧ s.2 = av_fl a13 a12 0 i) 8 0 (a12, a13) (by omega) ⟨av_fl0.symm, av_fl0.symm⟩ ?_ ?_
  · intro n s h
    refine pk_le 8 8 (fun _ => av_46 (z := z) Good (fun t ht => ?_) (fun post' K => C post' s.1 s.2 (fun t ht => ?_) K) (fun m t g => H m t s.2 g)) (fun z => absurd z (by omega))
    · rw [h.2, av_fl_z (by omega)]
      exact hN t ht
    · rw [h.1, av_fl_z (by omega)]
      exact BitVec.getLsbD_zero
  · intro n i s hi h hw
    refine pk_le 8 i (fun z => absurd z (by omega)) (fun _ => ⟨pk_in i 8 hi, pk_in i 8 hi, nm_e ⟨pk_in i 8 hi, nm_e (nm_r (nI_1 i) (hw (_, _) ⟨av_stL h.1 (av_cl0 hi) rfl, av_stL h.2 (av_cl0 hi) ?_⟩))⟩⟩)
    have r := av_fl_read h.1
    rw [Nat.zero_add] at r
    rw [nI_clamp (show i < 2 ^ 31 by omega)]
    exact r
def av_G (a l h : Nat) (m : Int32) (s : Nat → Int64) : Prop := m = 1 ∧ av_N0 s a l h
theorem av_G1 {a k : Nat} {s12 : Nat → Int64} (ha : a < 3) (hk : k < 8) (h : ∀ s, s < 512 → av_bt (s12 (s / 64)) (s % 64) = (false || decide (s = k * 8 ^ a))) : av_G a k k 1 s12 := by
  refine ⟨rfl, fun s hs => ?_⟩
  rw [h s hs, av_m_pt a ha k hk s hs, Bool.false_or]
theorem av_aW_set {a k z : Nat} {B : Int32} (ha : a < 3) (hk : k < 8) (hN : av_N0 a12 z 0 0) (H : ∀ m s12 s13, av_G a k k m s12 → post (c, lv, m, w, a1, a2, a3, a4, a5, a6, a7, a8, a9, a10, a11, s12, s13, a14, a15, a16, a17)) : wpX_applyToStates post (c, lv, li, w, a1, a2, a3, a4, a5, a6, a7, a8, a9, a10, a11, a12, a13, a14, a15, a16, a17) 0 (nI a) B (nI k) :=
  av_aps (av_G a k k) hN (fun post' s12 s13 h0 K => av_cS_set ha hk h0 (fun t ht => K _ _ (av_G1 ha hk ht))) H
theorem av_aW_cpy {a b k z : Nat} (ha : a < 3) (hb : b < 4) (hk : k < 8) (hN : av_N0 a12 z 0 0) (H : ∀ m s12 s13, av_G a k k m s12 → post (c, lv, m, w, a1, a2, a3, a4, a5, a6, a7, a8, a9, a10, a11, s12, s13, a14, a15, a16, a17)) : wpX_applyToStates post (c, lv, li, w, a1, a2, a3, a4, a5, a6, a7, a8, a9, a10, a11, a12, a13, a14, a15, a16, a17) 1 (nI a) (nI b) (nI k) :=
  av_aps (av_G a k k) hN (fun post' s12 s13 h0 K => av_cS_cpy ha hb hk h0 (fun t ht => K _ _ (av_G1 ha hk ht))) H
theorem av_aW_any {a z : Nat} {B C : Int32} (ha : a < 3) (hN : av_N0 a12 z 0 0) (H : ∀ m s12 s13, av_G a 0 7 m s12 → post (c, lv, m, w, a1, a2, a3, a4, a5, a6, a7, a8, a9, a10, a11, s12, s13, a14, a15, a16, a17)) : wpX_applyToStates post (c, lv, li, w, a1, a2, a3, a4, a5, a6, a7, a8, a9, a10, a11, a12, a13, a14, a15, a16, a17) 2 (nI a) B C :=
  av_aps (av_G a 0 7) hN (fun post' s12 s13 h0 K => av_cS_any ha h0 (fun m t hm ht => K _ _ ⟨hm, fun s hs => by rw [ht s hs, av_e8 a ha s hs]⟩)) H
theorem av_aW_less {a b k z : Nat} (ha : a < 4) (hb : b < 4) (hk : k < 8) (hN : av_N0 a12 z 0 0) (H : ∀ m s12 s13, av_G 0 0 0 m s12 → post (c, lv, m, w, a1, a2, a3, a4, a5, a6, a7, a8, a9, a10, a11, s12, s13, a14, a15, a16, a17)) : wpX_applyToStates post (c, lv, li, w, a1, a2, a3, a4, a5, a6, a7, a8, a9, a10, a11, a12, a13, a14, a15, a16, a17) 3 (nI a) (nI b) (nI k) :=
  av_aps (av_G 0 0 0) hN (fun post' s12 s13 h0 K => av_cS_less ha hb hk h0 (fun t ht => K _ _ (av_G1 (by omega) (by omega) ht))) H
theorem av_aW_cpyd {a b k z : Nat} (ha : a < 3) (hb : b < 4) (hk : k < 8) (hk1 : 1 ≤ k) (hN : av_N0 a12 z 0 0) (H : ∀ m s12 s13, m = 0 → post (c, lv, m, w, a1, a2, a3, a4, a5, a6, a7, a8, a9, a10, a11, s12, s13, a14, a15, a16, a17)) : wpX_applyToStates post (c, lv, li, w, a1, a2, a3, a4, a5, a6, a7, a8, a9, a10, a11, a12, a13, a14, a15, a16, a17) 1 (nI a) (nI b) (- nI k) :=
  av_aps (fun m _ => m = 0) hN (fun post' s12 s13 h0 K => av_cS_cpyd ha hb hk hk1 (K _ _ rfl)) H
theorem av_aW_lessd {a b k z : Nat} (ha : a < 4) (hb : b < 4) (hk : k < 8) (hk1 : 1 ≤ k) (hN : av_N0 a12 z 0 0) (H : ∀ m s12 s13, m = 0 → post (c, lv, m, w, a1, a2, a3, a4, a5, a6, a7, a8, a9, a10, a11, s12, s13, a14, a15, a16, a17)) : wpX_applyToStates post (c, lv, li, w, a1, a2, a3, a4, a5, a6, a7, a8, a9, a10, a11, a12, a13, a14, a15, a16, a17) 3 (nI a) (nI b) (- nI k) :=
  av_aps (fun m _ => m = 0) hN (fun post' s12 s13 h0 K => av_cS_lessd ha hb hk hk1 (K _ _ rfl)) H
end
section
variable {c lv li w : Int32} {a1 a2 a3 a4 a5 a6 : Nat → Int32} {a7 : Nat → Int64} {a8 a9 a10 a11 : Nat → Int32} {a12 a13 : Nat → Int64} {a14 a15 a16 a17 : Nat → Int32}
variable {post : St2 → Prop}
/-- statements that lead on, and to what box -/
def av_kA (o A B C : Int32) (a l h : Nat) : Prop :=
  (o = 0 ∧ a < 3 ∧ l < 8 ∧ h = l ∧ A = nI a ∧ C = nI l)
  ∨ (o = 1 ∧ a < 3 ∧ l < 8 ∧ h = l ∧ A = nI a ∧ C = nI l ∧ ∃ b, b < 4 ∧ B = nI b)
  ∨ (o = 2 ∧ a < 3 ∧ l = 0 ∧ h = 7 ∧ A = nI a)
  ∨ (o = 3 ∧ l = 0 ∧ h = 0 ∧ ∃ a' b' k, a' < 4 ∧ b' < 4 ∧ a' ≠ b' ∧ k < 8 ∧ A = nI a' ∧ B = nI b' ∧ C = nI k)
/-- statements after which no state is left -/
def av_kD (o A B C : Int32) : Prop := ∃ a b k, b < 4 ∧ k < 8 ∧ 1 ≤ k ∧ A = nI a ∧ B = nI b ∧ C = - nI k ∧ ((o = 1 ∧ a < 3) ∨ (o = 3 ∧ a < 4 ∧ a ≠ b))
def av_kR (o A B C : Int32) (a l h : Nat) : Prop := av_kA o A B C a l h ∨ (o = 4 ∧ C = nI 1 ∧ l = 0 ∧ h = 0) ∨ (o = 5 ∧ (C = nI 0 ∨ C = nI 1) ∧ l = 0 ∧ h = 0)
def av_kS (o A B C : Int32) : Prop := av_kD o A B C ∨ (o = 4 ∧ C = nI 0) ∨ o = 6
theorem av_kA_b {o A B C : Int32} {a l h : Nat} (hk : av_kA o A B C a l h) : l < 8 ∧ h < 8 := by
  rcases hk with h | h | h | h <;> omega
theorem av_kR_b {o A B C : Int32} {a l h : Nat} (hk : av_kR o A B C a l h) : l < 8 ∧ h < 8 := by
  rcases hk with h | h | h
  · exact av_kA_b h
  · omega
  · omega
theorem av_ap0 {o A B C : Int32} {a l' h : Nat} (hk : av_kA o A B C a l' h) (hN : av_N0 a12 0 0 0) (H : ∀ m s12 s13, av_G a l' h m s12 → post (c, lv, m, w, a1, a2, a3, a4, a5, a6, a7, a8, a9, a10, a11, s12, s13, a14, a15, a16, a17)) : wpX_applyToStates post (c, lv, li, w, a1, a2, a3, a4, a5, a6, a7, a8, a9, a10, a11, a12, a13, a14, a15, a16, a17) o A B C := by
  rcases hk with ⟨rfl, ha, hl, rfl, rfl, rfl⟩ | ⟨rfl, ha, hl, rfl, rfl, rfl, b, hb, rfl⟩ | ⟨rfl, ha, rfl, rfl, rfl⟩ | ⟨rfl, rfl, rfl, a', b', k, ha', hb', hab, hk, rfl, rfl, rfl⟩
  · exact av_aW_set ha hl hN H
  · exact av_aW_cpy ha hb hl hN H
  · exact av_aW_any ha hN H
  · exact av_aW_less ha' hb' hk hN (fun m s12 s13 g => H m s12 s13 ⟨g.1, fun s hs => by rw [g.2 s hs, av_m_z]⟩)
theorem av_ap1 {o A B C : Int32} {a l' h : Nat} (hk : av_kA o A B C a l' h) (hN : av_N1 a14 0 0 0) (H : ∀ s, av_N1 s a l' h → post (c, lv, li, w, a1, a2, a3, a4, a5, a6, a7, a8, a9, a10, a11, a12, a13, s, a15, a16, a17)) : wpX_applyToSets post (c, lv, li, w, a1, a2, a3, a4, a5, a6, a7, a8, a9, a10, a11, a12, a13, a14, a15, a16, a17) o A B C := by
  rcases hk with ⟨rfl, ha, hl, rfl, rfl, rfl⟩ | ⟨rfl, ha, hl, rfl, rfl, rfl, b, hb, rfl⟩ | ⟨rfl, ha, rfl, rfl, rfl⟩ | ⟨rfl, rfl, rfl, a', b', k, ha', hb', hab, hk, rfl, rfl, rfl⟩
  · exact av_aS_set ha hl hN H
  · exact av_aS_cpy ha hb hl hN H
  · exact av_aS_any ha hN H
  · exact av_aS_less ha' hb' hk hN (fun s g => H s (fun v hv => by rw [g v hv, av_lo0, av_lo0]))
theorem av_ap2 {o A B C : Int32} {a l' h : Nat} (hk : av_kA o A B C a l' h) (hN : av_N2 a15 a16 0 0 0) (H : ∀ s t, av_N2 s t a l' h → post (c, lv, li, w, a1, a2, a3, a4, a5, a6, a7, a8, a9, a10, a11, a12, a13, a14, s, t, a17)) : wpX_applyToRanges post (c, lv, li, w, a1, a2, a3, a4, a5, a6, a7, a8, a9, a10, a11, a12, a13, a14, a15, a16, a17) o A B C := by
  rcases hk with ⟨rfl, ha, hl, rfl, rfl, rfl⟩ | ⟨rfl, ha, hl, rfl, rfl, rfl, b, hb, rfl⟩ | ⟨rfl, ha, rfl, rfl, rfl⟩ | ⟨rfl, rfl, rfl, a', b', k, ha', hb', hab, hk, rfl, rfl, rfl⟩
  · exact av_aR_set ha hl hN H
  · exact av_aR_cpy ha hb hl hN H
  · exact av_aR_any ha hN H
  · exact av_aR_less ha' hb' hk hN (H a15 a16 (fun v hv => by rw [(hN v hv).1, (hN v hv).2, av_lo0, av_lo0]; exact ⟨rfl, rfl⟩))
theorem av_ap3 {o A B C : Int32} {a l' h : Nat} (hli : ¬ li = 0) (hk : av_kA o A B C a l' h) (hN : av_N3 a17 0 0 0) (H : ∀ s, av_N3 s a l' h → post (c, lv, li, w, a1, a2, a3, a4, a5, a6, a7, a8, a9, a10, a11, a12, a13, a14, a15, a16, s)) : wpX_applyToBounds post (c, lv, li, w, a1, a2, a3, a4, a5, a6, a7, a8, a9, a10, a11, a12, a13, a14, a15, a16, a17) o A B C := by
  rcases hk with ⟨rfl, ha, hl, rfl, rfl, rfl⟩ | ⟨rfl, ha, hl, rfl, rfl, rfl, b, hb, rfl⟩ | ⟨rfl, ha, rfl, rfl, rfl⟩ | ⟨rfl, rfl, rfl, a', b', k, ha', hb', hab, hk, rfl, rfl, rfl⟩
  · exact av_aB_set ha hl hN H
  · exact av_aB_cpy hli ha hb hl hN H
  · exact av_aB_any ha hN H
  · exact av_aB_less ha' hb' hk hN (H a17 (fun x hx y hy => by rw [hN x hx y hy, av_B0, av_B0]))
theorem av_apply {q a l' h : Nat} {o A B C : Int32} (hq : q < 4) (hk : av_kA o A B C a l' h) (hN : av_N q a12 a14 a15 a16 a17 0 0 0)
    (H : ∀ s12 s13 s14 s15 s16 s17, av_N q s12 s14 s15 s16 s17 a l' h → post (c, lv, 1, w, a1, a2, a3, a4, a5, a6, a7, a8, a9, a10, a11, s12, s13, s14, s15, s16, s17)) : wpX_apply post (c, lv, 1, w, a1, a2, a3, a4, a5, a6, a7, a8, a9, a10, a11, a12, a13, a14, a15, a16, a17) (nI q) o A B C := by
  rcases (show q = 0 ∨ q = 1 ∨ q = 2 ∨ q = 3 by omega) with e | e | e | e
  · subst e
    refine pk_eq 0 0 (fun _ => av_ap0 hk (hN.1 rfl) (fun m s12 s13 g => ?_)) (fun z => absurd rfl z)
    obtain ⟨rfl, g⟩ := g
    exact H _ _ _ _ _ _ ⟨fun _ => g, av_x (by decide), av_x (by decide), av_x (by decide)⟩
  · subst e
    exact pk_eq 1 0 (fun z => absurd z (by decide)) (fun _ => pk_eq 1 1 (fun _ => av_ap1 hk (hN.2.1 rfl) (fun s g => H _ _ _ _ _ _ ⟨av_x (by decide), fun _ => g, av_x (by decide), av_x (by decide)⟩)) (fun z => absurd rfl z))
  · subst e
    exact pk_eq 2 0 (fun z => absurd z (by decide)) (fun _ => pk_eq 2 1 (fun z => absurd z (by decide)) (fun _ => pk_eq 2 2 (fun _ => av_ap2 hk (hN.2.2.1 rfl) (fun s t g => H _ _ _ _ _ _ ⟨av_x (by decide), av_x (by decide), fun _ => g, av_x (by decide)⟩)) (fun z => absurd rfl z)))
  · subst e
    exact pk_eq 3 0 (fun z => absurd z (by decide)) (fun _ => pk_eq 3 1 (fun z => absurd z (by decide)) (fun _ => pk_eq 3 2 (fun z => absurd z (by decide)) (fun _ => av_ap3 (by decide) hk (hN.2.2.2 rfl) (fun s g => H _ _ _ _ _ _ ⟨av_x (by decide), av_x (by decide), av_x (by decide), fun _ => g⟩))))
theorem av_applyd {q : Nat} {o A B C : Int32} (hq : q < 4) (hk : av_kD o A B C) (hN : av_N q a12 a14 a15 a16 a17 0 0 0)
    (H : ∀ s12 s13 s14 s15 s16 s17, post (c, lv, 0, w, a1, a2, a3, a4, a5, a6, a7, a8, a9, a10, a11, s12, s13, s14, s15, s16, s17)) : wpX_apply post (c, lv, 1, w, a1, a2, a3, a4, a5, a6, a7, a8, a9, a10, a11, a12, a13, a14, a15, a16, a17) (nI q) o A B C := by
  obtain ⟨a, b, k, hb, hk, hk1, rfl, rfl, rfl, hc⟩ := hk
  rcases (show q = 0 ∨ q = 1 ∨ q = 2 ∨ q = 3 by omega) with e | e | e | e
  · subst e
    refine pk_eq 0 0 (fun _ => ?_) (fun z => absurd rfl z)
    rcases hc with ⟨rfl, ha⟩ | ⟨rfl, ha, hab⟩
    · refine av_aW_cpyd ha hb hk hk1 (hN.1 rfl) (fun m s12 s13 g => ?_)
      subst g
      exact H _ _ _ _ _ _
    · refine av_aW_lessd ha hb hk hk1 (hN.1 rfl) (fun m s12 s13 g => ?_)
      subst g
      exact H _ _ _ _ _ _
  · subst e
    refine pk_eq 1 0 (fun z => absurd z (by decide)) (fun _ => pk_eq 1 1 (fun _ => ?_) (fun z => absurd rfl z))
    rcases hc with ⟨rfl, ha⟩ | ⟨rfl, ha, hab⟩
    · exact av_aS_cpyd ha hb hk hk1 (hN.2.1 rfl) (fun s => H _ _ _ _ _ _)
    · exact av_aS_lessd ha hb hab hk hk1 (hN.2.1 rfl) (fun s => H _ _ _ _ _ _)
  · subst e
    refine pk_eq 2 0 (fun z => absurd z (by decide)) (fun _ => pk_eq 2 1 (fun z => absurd z (by decide)) (fun _ => pk_eq 2 2 (fun _ => ?_) (fun z => absurd rfl z)))
    rcases hc with ⟨rfl, ha⟩ | ⟨rfl, ha, hab⟩
    · exact av_aR_cpyd ha hb hk hk1 (hN.2.2.1 rfl) (fun s t => H _ _ _ _ _ _)
    · exact av_aR_lessd ha hb hab hk hk1 (hN.2.2.1 rfl) (fun s t => H _ _ _ _ _ _)
  · subst e
    refine pk_eq 3 0 (fun z => absurd z (by decide)) (fun _ => pk_eq 3 1 (fun z => absurd z (by decide)) (fun _ => pk_eq 3 2 (fun z => absurd z (by decide)) (fun _ => ?_)))
    rcases hc with ⟨rfl, ha⟩ | ⟨rfl, ha, hab⟩
    · exact av_aB_cpyd (by decide) ha hb hk hk1 (hN.2.2.2 rfl) (H _ _ _ _ _ _)
    · exact av_aB_lessd ha hb hk hk1 (hN.2.2.2 rfl) (H _ _ _ _ _ _)
/-! visit of place 0 -/
theorem av_66 {q a l' h : Nat} {o : Int32} (hq : q < 4) (hl : l' < 8) (hh : h < 8) (ho : ¬ o = 5) (h60 : a6 0 = av_b q) (h61 : a6 1 = 0) (hN : av_N q a12 a14 a15 a16 a17 a l' h) (hP : av_P q 0 a7 a8 a9 a10 a11 0 0 0)
    (H : ∀ s6 s7 s8 s9 s10 s11, s6 0 = av_b q → s6 1 = av_b q → av_P q 0 s7 s8 s9 s10 s11 0 0 0 → av_P q 1 s7 s8 s9 s10 s11 a l' h → post (c, lv, 1, w ||| ((1 : Int32) <<< (nI 1 &&& 31)), a1, a2, a3, a4, a5, s6, s7, s8, s9, s10, s11, a12, a13, a14, a15, a16, a17)) : wX_visit_66 post (nI q) (nI 0) o c lv 1 w a1 a2 a3 a4 a5 a6 a7 a8 a9 a10 a11 a12 a13 a14 a15 a16 a17 := by
  refine br_f (by decide) ?_
  rw [nI_1 0]
  refine av_join_new (p := 1) hq (by omega) hl hh h61 hN (fun s7 s8 s9 s10 s11 g1 g2 => br_f ho (H _ _ _ _ _ _ ?_ pk_us (g2 0 _ _ _ (by omega) hP) g1))
  rw [pk_un (by decide)]
  exact h60
theorem av_66f {q : Nat} {C : Int32} (hq : q < 4) (h4 : a4 0 = C) (hC : C = nI 0 ∨ C = nI 1) (h60 : a6 0 = av_b q) (h61 : a6 1 = 0) (hN : av_N q a12 a14 a15 a16 a17 0 0 0) (hP : av_P q 0 a7 a8 a9 a10 a11 0 0 0)
    (H : ∀ s6 s7 s8 s9 s10 s11, s6 0 = av_b q → s6 1 = av_b q → av_P q 0 s7 s8 s9 s10 s11 0 0 0 → av_P q 1 s7 s8 s9 s10 s11 0 0 0 → post (c, lv, 1, w ||| ((1 : Int32) <<< (nI 1 &&& 31)), a1, a2, a3, a4, a5, s6, s7, s8, s9, s10, s11, a12, a13, a14, a15, a16, a17)) : wX_visit_66 post (nI q) (nI 0) 5 c lv 1 w a1 a2 a3 a4 a5 a6 a7 a8 a9 a10 a11 a12 a13 a14 a15 a16 a17 := by
  have e0 : upd a6 1 (av_b q) 0 = av_b q := by
    rw [pk_un (by decide)]
    exact h60
  refine br_f (by decide) ?_
  rw [nI_1 0]
  refine av_join_new (p := 1) hq (by omega) (by omega) (by omega) h61 hN (fun s7 s8 s9 s10 s11 g1 g2 => br_t rfl ⟨pk_in 0 20 (by omega), ?_⟩)
  rw [nI_clamp (show 0 < 2 ^ 31 by omega), h4]
  have g0 := g2 0 0 0 0 (by omega) hP
  rcases hC with e | e
  · rw [e]
    exact av_join_same (p := 0) hq (by omega) e0 hN g0 (H _ _ _ _ _ _ e0 pk_us g0 g1)
  · rw [e]
    exact av_join_same (p := 1) hq (by omega) pk_us hN g1 (H _ _ _ _ _ _ e0 pk_us g0 g1)
theorem av_visit {q a l' h : Nat} {o A B C : Int32} (hq : q < 4) (hk : av_kR o A B C a l' h) (h1 : a1 0 = o) (h2 : a2 0 = A) (h3 : a3 0 = B) (h4 : a4 0 = C) (h60 : a6 0 = av_b q) (h61 : a6 1 = 0) (hP : av_P q 0 a7 a8 a9 a10 a11 0 0 0)
    (H : ∀ s6 s7 s8 s9 s10 s11 s12 s13 s14 s15 s16 s17, s6 0 = av_b q → s6 1 = av_b q → av_P q 0 s7 s8 s9 s10 s11 0 0 0 → av_P q 1 s7 s8 s9 s10 s11 a l' h → post (c, lv, 1, w ||| ((1 : Int32) <<< (nI 1 &&& 31)), a1, a2, a3, a4, a5, s6, s7, s8, s9, s10, s11, s12, s13, s14, s15, s16, s17)) : wpX_visit post (c, lv, li, w, a1, a2, a3, a4, a5, a6, a7, a8, a9, a10, a11, a12, a13, a14, a15, a16, a17) (nI q) (nI 0) := by
  unfold wpX_visit
  dsimp only
  refine av_load (li := li) (p := 0) (by omega) (by omega) (by omega) hP (fun s12 s14 s15 s16 s17 hN => ?_)
  dsimp only
  refine ⟨pk_in 0 20 (by omega), nm_e ?_⟩
  rw [nI_clamp (show 0 < 2 ^ 31 by omega), h1, h2, h3, h4]
  have b := av_kR_b hk
  rcases hk with hk | ⟨rfl, rfl, rfl, rfl⟩ | ⟨rfl, hC, rfl, rfl⟩
  · have n6 : ¬ o = 6 ∧ ¬ o = 4 ∧ ¬ o = 5 := by
      rcases hk with ⟨rfl, _⟩ | ⟨rfl, _⟩ | ⟨rfl, _⟩ | ⟨rfl, _⟩ <;> decide
    refine br_f n6.1 (br_f n6.2.1 (br_f n6.2.2 ⟨pk_in 0 20 (by omega), pk_in 0 20 (by omega), pk_in 0 20 (by omega), ?_⟩))
    exact av_apply hq hk hN (fun t12 t13 t14 t15 t16 t17 hN2 => av_66 hq b.1 b.2 n6.2.2 h60 h61 hN2 hP (fun s6 s7 s8 s9 s10 s11 g0 g1 p0 p1 => H s6 s7 s8 s9 s10 s11 t12 t13 t14 t15 t16 t17 g0 g1 p0 p1))
  · refine br_f (by decide) (br_t rfl ⟨pk_in 0 20 (by omega), ?_⟩)
    refine av_join_new (p := 1) hq (by omega) (by omega) (by omega) h61 hN (fun s7 s8 s9 s10 s11 g1 g2 => H (upd a6 1 (av_b q)) s7 s8 s9 s10 s11 s12 a13 s14 s15 s16 s17 ?_ pk_us (g2 0 _ _ _ (by omega) hP) (av_P_z g1))
    rw [pk_un (by decide)]
    exact h60
  · exact br_f (by decide) (br_f (by decide) (br_t rfl (av_66f hq h4 hC h60 h61 hN hP (fun s6 s7 s8 s9 s10 s11 g0 g1 p0 p1 => H s6 s7 s8 s9 s10 s11 s12 a13 s14 s15 s16 s17 g0 g1 p0 (av_P_z p1)))))
theorem av_visits {q : Nat} {o A B C : Int32} (hq : q < 4) (hk : av_kS o A B C) (h1 : a1 0 = o) (h2 : a2 0 = A) (h3 : a3 0 = B) (h4 : a4 0 = C) (h60 : a6 0 = av_b q) (hP : av_P q 0 a7 a8 a9 a10 a11 0 0 0)
    (H : ∀ m s12 s13 s14 s15 s16 s17, post (c, lv, m, w, a1, a2, a3, a4, a5, a6, a7, a8, a9, a10, a11, s12, s13, s14, s15, s16, s17)) : wpX_visit post (c, lv, li, w, a1, a2, a3, a4, a5, a6, a7, a8, a9, a10, a11, a12, a13, a14, a15, a16, a17) (nI q) (nI 0) := by
  unfold wpX_visit
  dsimp only
  refine av_load (li := li) (p := 0) (by omega) (by omega) (by omega) hP (fun s12 s14 s15 s16 s17 hN => ?_)
  dsimp only
  refine ⟨pk_in 0 20 (by omega), nm_e ?_⟩
  rw [nI_clamp (show 0 < 2 ^ 31 by omega), h1, h2, h3, h4]
  rcases hk with hk | ⟨rfl, rfl⟩ | rfl
  · have n6 : ¬ o = 6 ∧ ¬ o = 4 ∧ ¬ o = 5 := by
      obtain ⟨a, b, k, _, _, _, _, _, _, hc⟩ := hk
      rcases hc with ⟨rfl, _⟩ | ⟨rfl, _⟩ <;> decide
    refine br_f n6.1 (br_f n6.2.1 (br_f n6.2.2 ⟨pk_in 0 20 (by omega), pk_in 0 20 (by omega), pk_in 0 20 (by omega), ?_⟩))
    exact av_applyd hq hk hN (fun t12 t13 t14 t15 t16 t17 => br_t rfl (H _ _ _ _ _ _ _))
  · exact br_f (by decide) (br_t rfl ⟨pk_in 0 20 (by omega), av_join_same (p := 0) hq (by omega) h60 hN hP (H _ _ _ _ _ _ _)⟩)
  · exact br_t rfl (H _ _ _ _ _ _ _)
end
section
variable {c lv li w : Int32} {a1 a2 a3 a4 a5 a6 : Nat → Int32} {a7 : Nat → Int64} {a8 a9 a10 a11 : Nat → Int32} {a12 a13 : Nat → Int64} {a14 a15 a16 a17 : Nat → Int32}
variable {post : St2 → Prop}
theorem av_done {q : Nat} (hq : q < 4) (h5 : ¬ a5 q = 0) (H : post (c, lv, li, w, a1, a2, a3, a4, a5, a6, a7, a8, a9, a10, a11, a12, a13, a14, a15, a16, a17)) : wpX_analyse post (c, lv, li, w, a1, a2, a3, a4, a5, a6, a7, a8, a9, a10, a11, a12, a13, a14, a15, a16, a17) (nI q) := by
  refine And.intro (pk_in q 4 hq) (br_f ?_ H)
  rw [nI_clamp (show q < 2 ^ 31 by omega)]
  exact h5
theorem av_one : (0 : Int32) ||| ((1 : Int32) <<< (nI 0 &&& 31)) = 1 := by decide +kernel
theorem av_two : (0 : Int32) ||| ((1 : Int32) <<< (nI 1 &&& 31)) = 2 := by decide +kernel
theorem av_an19 {q n : Nat} (hq : q < 4) (hn : n ≤ 1) (h5 : a5 q = 0) (h60 : a6 0 = 0) (h61 : a6 1 = 0)
    (K : ∀ s6 s7 s8 s9 s10 s11 s12 s14 s15 s16 s17, s6 0 = av_b q → s6 1 = 0 → av_P q 0 s7 s8 s9 s10 s11 0 0 0 → ∃ m, wX_analyse_130 post (nI q) m (nI n) 1 1 1 a1 a2 a3 a4 (upd a5 q 1) s6 s7 s8 s9 s10 s11 s12 a13 s14 s15 s16 s17) : wpX_analyse post (nI n, 1, li, w, a1, a2, a3, a4, a5, a6, a7, a8, a9, a10, a11, a12, a13, a14, a15, a16, a17) (nI q) := by
  refine And.intro (pk_in q 4 hq) ?_
  rw [nI_clamp (show q < 2 ^ 31 by omega)]
  refine br_t h5 ⟨pk_in q 4 hq, nm_e ?_⟩
  refine pk_loop (fun m i s => wX_analyse_19 post (nI q) (nI n) 1 li w m (nI i) a1 a2 a3 a4 (upd a5 q 1) s a7 a8 a9 a10 a11 a12 a13 a14 a15 a16 a17) (fun _ s => s 0 = 0 ∧ s 1 = 0) (n + 1) 0 a6 (by omega) ⟨h60, h61⟩ ?_ ?_
  · intro m s h
    refine pk_lt n (n + 1) (fun _ => av_begin hq (fun s12 s14 s15 s16 s17 hN => ?_)) (fun z => absurd z (by omega))
    refine av_join_new (p := 0) hq (by omega) (by omega) (by omega) h.1 hN (fun s7 s8 s9 s10 s11 g1 g2 => br_f (by decide) ?_)
    rw [av_one]
    exact K (upd s 0 (av_b q)) s7 s8 s9 s10 s11 s12 s14 s15 s16 s17 pk_us (by rw [pk_un (by decide)]; exact h.2) g1
  · intro m i s hi h hw
    have hs : s i = 0 := by
      rcases (show i = 0 ∨ i = 1 by omega) with e | e
      · rw [e]
        exact h.1
      · rw [e]
        exact h.2
    refine pk_lt n i (fun z => absurd z (by omega)) (fun _ => ⟨pk_in i 21 (by omega), pk_in i 21 (by omega), nm_e (nm_r (nI_1 i) (hw _ ?_))⟩)
    rw [nI_clamp (show i < 2 ^ 31 by omega), hs]
    have v : ∀ j, s j = 0 → upd s i (((0 : Int32) &&& (((1 : Int32) <<< (nI q &&& 31)) ^^^ (-1))).toInt8.toInt32) j = 0 := by
      intro j hj
      by_cases e : j = i
      · rw [e, pk_us]
        exact av_b_clr q hq
      · rw [pk_un e]
        exact hj
    exact ⟨v 0 h.1, v 1 h.2⟩
/-- what stands after the analysis of one way: n statements, place 1 reached or not (f), its box -/
def av_Q (q n : Nat) (f : Bool) (a l h : Nat) (a5 a6 : Nat → Int32) (a7 : Nat → Int64) (a8 a9 a10 a11 : Nat → Int32) : Prop :=
  ¬ a5 q = 0 ∧ a6 0 = av_b q ∧ av_P q 0 a7 a8 a9 a10 a11 0 0 0 ∧ (n = 1 → a6 1 = if f then av_b q else 0) ∧ (f = true → av_P q 1 a7 a8 a9 a10 a11 a l h)
theorem av_u5 {q : Nat} : ¬ upd a5 q 1 q = 0 := by
  rw [pk_us]
  decide
theorem av_an0 {q a l' h : Nat} (hq : q < 4) (h5 : a5 q = 0) (h60 : a6 0 = 0) (h61 : a6 1 = 0)
    (H : ∀ m s5 s6 s7 s8 s9 s10 s11 s12 s13 s14 s15 s16 s17, av_Q q 0 false a l' h s5 s6 s7 s8 s9 s10 s11 → post (nI 0, 1, m, 0, a1, a2, a3, a4, s5, s6, s7, s8, s9, s10, s11, s12, s13, s14, s15, s16, s17)) : wpX_analyse post (nI 0, 1, li, w, a1, a2, a3, a4, a5, a6, a7, a8, a9, a10, a11, a12, a13, a14, a15, a16, a17) (nI q) := by
  refine av_an19 hq (by omega) h5 h60 h61 (fun s6 s7 s8 s9 s10 s11 s12 s14 s15 s16 s17 g0 g1 p0 => ?_)
  have HH := H 1 (upd a5 q 1) s6 s7 s8 s9 s10 s11 s12 a13 s14 s15 s16 s17 ⟨av_u5, g0, p0, fun z => absurd z (by decide), fun z => absurd z (by decide)⟩
  exact ⟨2, br_f (by decide) ⟨1, br_f (by decide) (nm_r (e' := (0 : Int32)) (by decide +kernel) (br_t (by decide) (br_t rfl HH)))⟩⟩
theorem av_anS {q a l' h : Nat} {o A B C : Int32} (hq : q < 4) (hk : av_kS o A B C) (h1 : a1 0 = o) (h2 : a2 0 = A) (h3 : a3 0 = B) (h4 : a4 0 = C) (h5 : a5 q = 0) (h60 : a6 0 = 0) (h61 : a6 1 = 0)
    (H : ∀ m s5 s6 s7 s8 s9 s10 s11 s12 s13 s14 s15 s16 s17, av_Q q 1 false a l' h s5 s6 s7 s8 s9 s10 s11 → post (nI 1, 1, m, 0, a1, a2, a3, a4, s5, s6, s7, s8, s9, s10, s11, s12, s13, s14, s15, s16, s17)) : wpX_analyse post (nI 1, 1, li, w, a1, a2, a3, a4, a5, a6, a7, a8, a9, a10, a11, a12, a13, a14, a15, a16, a17) (nI q) := by
  refine av_an19 hq (by omega) h5 h60 h61 (fun s6 s7 s8 s9 s10 s11 s12 s14 s15 s16 s17 g0 g1 p0 => ?_)
  refine ⟨2, br_f (by decide) ⟨1, br_f (by decide) (nm_r (e' := (0 : Int32)) (by decide +kernel) (br_f (by decide) ?_))⟩⟩
  exact av_visits hq hk h1 h2 h3 h4 g0 p0 (fun m t12 t13 t14 t15 t16 t17 => br_t rfl (H m (upd a5 q 1) s6 s7 s8 s9 s10 s11 t12 t13 t14 t15 t16 t17 ⟨av_u5, g0, p0, fun _ => g1, fun z => absurd z (by decide)⟩))
theorem av_anR {q a l' h : Nat} {o A B C : Int32} (hq : q < 4) (hk : av_kR o A B C a l' h) (h1 : a1 0 = o) (h2 : a2 0 = A) (h3 : a3 0 = B) (h4 : a4 0 = C) (h5 : a5 q = 0) (h60 : a6 0 = 0) (h61 : a6 1 = 0)
    (H : ∀ m s5 s6 s7 s8 s9 s10 s11 s12 s13 s14 s15 s16 s17, av_Q q 1 true a l' h s5 s6 s7 s8 s9 s10 s11 → post (nI 1, 1, m, 0, a1, a2, a3, a4, s5, s6, s7, s8, s9, s10, s11, s12, s13, s14, s15, s16, s17)) : wpX_analyse post (nI 1, 1, li, w, a1, a2, a3, a4, a5, a6, a7, a8, a9, a10, a11, a12, a13, a14, a15, a16, a17) (nI q) := by
  refine av_an19 hq (by omega) h5 h60 h61 (fun s6 s7 s8 s9 s10 s11 s12 s14 s15 s16 s17 g0 g1 p0 => ?_)
  refine ⟨3, br_f (by decide) ⟨1, br_f (by decide) (nm_r (e' := (0 : Int32)) (by decide +kernel) (br_f (by decide) ?_))⟩⟩
  refine av_visit hq hk h1 h2 h3 h4 g0 g1 p0 (fun t6 t7 t8 t9 t10 t11 t12 t13 t14 t15 t16 t17 f0 f1 q0 q1 => ?_)
  have HH := H 1 (upd a5 q 1) t6 t7 t8 t9 t10 t11 t12 t13 t14 t15 t16 t17 ⟨av_u5, f0, q0, fun _ => f1, fun _ => q1⟩
  dsimp only
  rw [av_two]
  exact br_f (by decide) ⟨2, br_t (by decide) (nm_r (e' := nI 1) (by decide +kernel) (br_f (by decide +kernel) (nm_r (e' := (0 : Int32)) (by decide +kernel) (br_t (by decide +kernel) (br_t rfl HH)))))⟩
end
section
variable {c lv li w : Int32} {a1 a2 a3 a4 a5 a6 : Nat → Int32} {a7 : Nat → Int64} {a8 a9 a10 a11 : Nat → Int32} {a12 a13 : Nat → Int64} {a14 a15 a16 a17 : Nat → Int32}
variable {post : Int32 → Prop}
/-! way 3 -/
theorem av_ix2 (p x y : Nat) : ((16 : Int32) * nI p + (4 : Int32) * nI x) + nI y = nI (16 * p + (4 * x + y)) := by
  rw [show (16 : Int32) = nI 16 from rfl, show (4 : Int32) = nI 4 from rfl, pk_mul, pk_mul, nI_add, nI_add, Nat.add_assoc]
theorem av_wb10 {p s x : Nat} {J : Int32 → Prop} (hp : p ≤ 1) (hs : s < 512) (hx : x < 4)
    (HJ : (∀ y, y < 4 → nI (av_v s x) - nI (av_v s y) ≤ a11 (16 * p + (4 * x + y))) → J (nI (x + 1))) (H0 : ∀ x y, x < 4 → y < 4 → ¬ nI (av_v s x) - nI (av_v s y) ≤ a11 (16 * p + (4 * x + y)) → post 0) : ∃ n, wX_isWithinBounds_10 post J (nI p) (nI s) (nI x) c lv li w a1 a2 a3 a4 a5 a6 a7 a8 a9 a10 a11 a12 a13 a14 a15 a16 a17 n 0 := by
  refine pk_loop (σ := Unit) (fun n i _ => wX_isWithinBounds_10 post J (nI p) (nI s) (nI x) c lv li w a1 a2 a3 a4 a5 a6 a7 a8 a9 a10 a11 a12 a13 a14 a15 a16 a17 n (nI i)) (fun i _ => ∀ y, y < i → nI (av_v s x) - nI (av_v s y) ≤ a11 (16 * p + (4 * x + y))) 4 0 () (by omega) (fun y hy => absurd hy (by omega))
    (fun n _ h => pk_le 4 4 (fun _ => nm_r (nI_1 x) (HJ h)) (fun z => absurd z (by omega))) ?_
  intro n i _ hi h hw
  refine pk_le 4 i (fun z => absurd z (by omega)) (fun _ => av_value hs hx (av_value hs hi ?_))
  refine nm_e ⟨pk_in (16 * p + (4 * x + i)) 336 (by omega) (av_ix2 p x i), ?_⟩
  rw [av_ix2, nI_clamp (show 16 * p + (4 * x + i) < 2 ^ 31 by omega)]
  exact br_c (fun z => nm_r (nI_1 i) (hw () (lt_s h z))) (fun z => H0 x i hx hi z)
theorem av_wb {p s : Nat} (hp : p ≤ 1) (hs : s < 512)
    (H1 : (∀ x, x < 4 → ∀ y, y < 4 → nI (av_v s x) - nI (av_v s y) ≤ a11 (16 * p + (4 * x + y))) → post 1) (H0 : ∀ x y, x < 4 → y < 4 → ¬ nI (av_v s x) - nI (av_v s y) ≤ a11 (16 * p + (4 * x + y)) → post 0) : wpX_isWithinBounds post (c, lv, li, w, a1, a2, a3, a4, a5, a6, a7, a8, a9, a10, a11, a12, a13, a14, a15, a16, a17) (nI p) (nI s) :=
  pk_loop (σ := Unit) (fun n i _ => wX_isWithinBounds_2 post (nI p) (nI s) c lv li w a1 a2 a3 a4 a5 a6 a7 a8 a9 a10 a11 a12 a13 a14 a15 a16 a17 n (nI i)) (fun i _ => ∀ x, x < i → ∀ y, y < 4 → nI (av_v s x) - nI (av_v s y) ≤ a11 (16 * p + (4 * x + y))) 4 0 () (by omega) (fun y hy => absurd hy (by omega))
    (fun n _ h => pk_le 4 4 (fun _ => H1 h) (fun z => absurd z (by omega)))
    (fun n i _ hi h hw => pk_le 4 i (fun z => absurd z (by omega)) (fun _ => av_wb10 hp hs hi (fun g => hw () (lt_s h g)) H0))
theorem av_dl {a b d e : Nat} (ha : a < 8) (hb : b < 8) (hd : d < 8) (he : e < 8) : nI a - nI b ≤ nI d - nI e ↔ a + e ≤ d + b := by
  rw [Int32.le_iff_toInt_le, pk_sub_toInt (by omega) (by omega), pk_sub_toInt (by omega) (by omega)]
  omega
theorem av_D {a l h s : Nat} (ha : a < 3) (hl : l < 8) (hh : h < 8) : (∀ x, x < 4 → ∀ y, y < 4 → nI (av_v s x) - nI (av_v s y) ≤ av_B a l h x y) ↔ av_m a l h s = true := by
  have l3 : ∀ k, av_lo a k 3 = 0 := fun k => av_lo_o (by omega)
  have v3 : av_v s 3 = 0 := if_pos rfl
  rw [av_m_iff]
  constructor
  · intro H v hv
    have t1 := H v (by omega) 3 (by omega)
    have t2 := H 3 (by omega) v (by omega)
    unfold av_B at t1 t2
    rw [if_neg (by omega), av_dl (av_v_lt _ _) (av_v_lt _ _) (av_lo_lt hh) (av_lo_lt hl), l3, v3] at t1
    rw [if_neg (by omega), av_dl (av_v_lt _ _) (av_v_lt _ _) (av_lo_lt hh) (av_lo_lt hl), l3, v3] at t2
    omega
  · intro H x hx y hy
    have K : ∀ v, v < 4 → av_lo a l v ≤ av_v s v ∧ av_v s v ≤ av_lo a h v := by
      intro v hv
      by_cases e : v = 3
      · rw [e, l3, l3, v3]
        omega
      · exact H v (by omega)
    unfold av_B
    by_cases e : x = y
    · rw [if_pos e, e, Int32.sub_self]
      exact Int32.le_refl _
    · rw [if_neg e, av_dl (av_v_lt _ _) (av_v_lt _ _) (av_lo_lt hh) (av_lo_lt hl)]
      have k1 := K x hx
      have k2 := K y hy
      omega
/-! ways 1 and 2 -/
theorem av_in1 {p s a l h : Nat} (hp : p ≤ 1) (hs : s < 512) (hl : l < 8) (hh : h < 8) (hP : av_N1 (fun k => a8 (3 * p + k)) a l h)
    (H1 : (∀ v, v < 3 → av_lo a l v ≤ av_v s v ∧ av_v s v ≤ av_lo a h v) → post 1) (H0 : ∀ v, v < 3 → ¬ (av_lo a l v ≤ av_v s v ∧ av_v s v ≤ av_lo a h v) → post 0) : ∃ n, wX_isIn_62 post (nI 1) (nI p) (nI s) c lv li w a1 a2 a3 a4 a5 a6 a7 a8 a9 a10 a11 a12 a13 a14 a15 a16 a17 n 0 := by
  refine pk_loop (σ := Unit) (fun n i _ => wX_isIn_62 post (nI 1) (nI p) (nI s) c lv li w a1 a2 a3 a4 a5 a6 a7 a8 a9 a10 a11 a12 a13 a14 a15 a16 a17 n (nI i)) (fun i _ => ∀ v, v < i → av_lo a l v ≤ av_v s v ∧ av_v s v ≤ av_lo a h v) 3 0 () (by omega) (fun y hy => absurd hy (by omega))
    (fun n _ h => pk_le 3 3 (fun _ => H1 h) (fun z => absurd z (by omega))) ?_
  intro n i _ hi g hw
  refine pk_le 3 i (fun z => absurd z (by omega)) (fun _ => av_value hs (by omega) ?_)
  refine pk_eq 1 1 (fun _ => ⟨pk_in (3 * p + i) 63 (by omega) (av_ix (M := 3) 3 p i), ?_⟩) (fun z => absurd rfl z)
  have e := hP i hi
  dsimp only at e
  have b := av_S_bit _ (av_lo_lt (a := a) (v := i) hl) _ (av_lo_lt (a := a) (v := i) hh) _ (av_v_lt s i)
  rw [av_clo (M := 3) 3 p i (by omega), e]
  exact br_c (fun z => br_t rfl (H0 i hi (b.mp z))) (fun z => br_f (by decide) (nm_r (nI_1 i) (hw () (lt_s g (Decidable.byContradiction (fun q => z (b.mpr q)))))))
theorem av_in2 {p s a l h : Nat} (hp : p ≤ 1) (hs : s < 512) (hl : l < 8) (hh : h < 8) (hP : av_N2 (fun k => a9 (3 * p + k)) (fun k => a10 (3 * p + k)) a l h)
    (H1 : (∀ v, v < 3 → av_lo a l v ≤ av_v s v ∧ av_v s v ≤ av_lo a h v) → post 1) (H0 : ∀ v, v < 3 → ¬ (av_lo a l v ≤ av_v s v ∧ av_v s v ≤ av_lo a h v) → post 0) : ∃ n, wX_isIn_62 post (nI 2) (nI p) (nI s) c lv li w a1 a2 a3 a4 a5 a6 a7 a8 a9 a10 a11 a12 a13 a14 a15 a16 a17 n 0 := by
  refine pk_loop (σ := Unit) (fun n i _ => wX_isIn_62 post (nI 2) (nI p) (nI s) c lv li w a1 a2 a3 a4 a5 a6 a7 a8 a9 a10 a11 a12 a13 a14 a15 a16 a17 n (nI i)) (fun i _ => ∀ v, v < i → av_lo a l v ≤ av_v s v ∧ av_v s v ≤ av_lo a h v) 3 0 () (by omega) (fun y hy => absurd hy (by omega))
    (fun n _ h => pk_le 3 3 (fun _ => H1 h) (fun z => absurd z (by omega))) ?_
  intro n i _ hi g hw
  have t1 := av_lo_lt (a := a) (v := i) hl
  have t2 := av_lo_lt (a := a) (v := i) hh
  have t3 := av_v_lt s i
  refine pk_le 3 i (fun z => absurd z (by omega)) (fun _ => av_value hs (by omega) ?_)
  refine pk_eq 2 1 (fun z => absurd z (by decide)) (fun _ => ⟨pk_in (3 * p + i) 63 (by omega) (av_ix (M := 3) 3 p i), ?_⟩)
  have e := hP i hi
  dsimp only at e
  rw [av_clo (M := 3) 3 p i (by omega), e.1, e.2]
  refine pk_lt (av_v s i) (av_lo a l i) (fun z => br_t rfl (H0 i hi (fun y => by omega))) (fun z1 => ⟨pk_in (3 * p + i) 63 (by omega) (av_ix (M := 3) 3 p i), ?_⟩)
  exact pk_lt (av_lo a h i) (av_v s i) (fun z => br_t rfl (H0 i hi (fun y => by omega))) (fun z2 => br_f (by decide) (nm_r (nI_1 i) (hw () (lt_s g ⟨z1, z2⟩))))
theorem av_isIn {q p s a l h : Nat} (hq : q < 4) (hp : p ≤ 1) (hs : s < 512) (ha : a < 3) (hl : l < 8) (hh : h < 8) (h6 : a6 p = av_b q) (hP : av_P q p a7 a8 a9 a10 a11 a l h)
    (H1 : av_m a l h s = true → post 1) (H0 : av_m a l h s = false → post 0) : wpX_isIn post (c, lv, li, w, a1, a2, a3, a4, a5, a6, a7, a8, a9, a10, a11, a12, a13, a14, a15, a16, a17) (nI q) (nI p) (nI s) := by
  have G1 : (∀ v, v < 3 → av_lo a l v ≤ av_v s v ∧ av_v s v ≤ av_lo a h v) → post 1 := fun g => H1 (av_m_iff.mpr g)
  have G0 : ∀ v, v < 3 → ¬ (av_lo a l v ≤ av_v s v ∧ av_v s v ≤ av_lo a h v) → post 0 := by
    intro v hv g
    refine H0 (Bool.eq_false_iff.mpr (fun z => g ?_))
    exact av_m_iff.mp z v hv
  unfold wpX_isIn
  dsimp only
  refine av_filled hq (by omega) h6 ?_
  refine br_f (by decide) ?_
  rcases (show q = 0 ∨ q = 1 ∨ q = 2 ∨ q = 3 by omega) with e | e | e | e
  · subst e
    have e2 : (8 : Int32) * nI p + (nI s >>> ((6 : Int32) &&& 31)) = nI (8 * p + s / 64) := by
      rw [av_s6 hs]
      exact av_ix (M := 8) 8 p (s / 64)
    refine pk_eq 0 0 (fun _ => ⟨pk_in (8 * p + s / 64) 168 (by omega) e2, ?_⟩) (fun z => absurd rfl z)
    have t := hP.1 rfl s hs
    dsimp only at t
    rw [e2, nI_clamp (show 8 * p + s / 64 < 2 ^ 31 by omega)]
    refine br_c (fun z => H0 ?_) (fun z => H1 ?_)
    · rw [← t]
      exact (av_ask hs).mp z
    · rw [← t]
      exact eq_true_of_ne_false (fun y => z ((av_ask hs).mpr y))
  · subst e
    exact pk_eq 1 0 (fun z => absurd z (by decide)) (fun _ => pk_eq 1 3 (fun z => absurd z (by decide)) (fun _ => av_in1 hp hs hl hh (hP.2.1 rfl) G1 G0))
  · subst e
    exact pk_eq 2 0 (fun z => absurd z (by decide)) (fun _ => pk_eq 2 3 (fun z => absurd z (by decide)) (fun _ => av_in2 hp hs hl hh (hP.2.2.1 rfl) G1 G0))
  · subst e
    refine pk_eq 3 0 (fun z => absurd z (by decide)) (fun _ => pk_eq 3 3 (fun _ => ?_) (fun z => absurd rfl z))
    have t := hP.2.2.2 rfl
    refine av_wb hp hs (fun g => ⟨av_nb (Or.inr rfl), H1 ((av_D ha hl hh).mp (fun x hx y hy => ?_))⟩) (fun x y hx hy g => ⟨av_nb (Or.inl rfl), H0 (Bool.eq_false_iff.mpr (fun z => g ?_))⟩)
    · have t1 := t x hx y hy
      dsimp only at t1
      rw [← t1]
      exact g x hx y hy
    · have t1 := t x hx y hy
      dsimp only at t1
      rw [t1]
      exact (av_D ha hl hh).mpr z x hx y hy
theorem av_isIn0 {q p : Nat} {S : Int32} (hq : q < 4) (hp : p ≤ 1) (h6 : a6 p = 0) (H : post 0) : wpX_isIn post (c, lv, li, w, a1, a2, a3, a4, a5, a6, a7, a8, a9, a10, a11, a12, a13, a14, a15, a16, a17) (nI q) (nI p) S := by
  unfold wpX_isIn
  dsimp only
  refine av_unfilled hq (by omega) h6 ?_
  exact br_t rfl H
theorem av_count {q p a l h : Nat} (hq : q < 4) (hp : p ≤ 1) (ha : a < 3) (hl : l < 8) (hh : h < 8) (h6 : a6 p = av_b q) (hP : av_P q p a7 a8 a9 a10 a11 a l h) (H : post (nI (av_cnt a l h 512))) : wpX_countStates post (c, lv, li, w, a1, a2, a3, a4, a5, a6, a7, a8, a9, a10, a11, a12, a13, a14, a15, a16, a17) (nI q) (nI p) := by
  refine pk_loop (fun n i s => wX_countStates_5 post (nI q) (nI p) c lv li w a1 a2 a3 a4 a5 a6 a7 a8 a9 a10 a11 a12 a13 a14 a15 a16 a17 n s (nI i)) (fun i s => s = nI (av_cnt a l h i)) 512 0 0 (by omega) rfl ?_ ?_
  · intro n s g
    subst g
    exact pk_le 512 512 (fun _ => H) (fun z => absurd z (by omega))
  · intro n i s hi g hw
    subst g
    refine pk_le 512 i (fun z => absurd z (by omega)) (fun _ => av_isIn hq hp hi ha hl hh h6 hP (fun m => br_f (by decide) (nm_r (nI_1 _) (nm_r (nI_1 i) (hw _ ?_)))) (fun m => br_t rfl (nm_r (nI_1 i) (hw _ ?_))))
    · show _ = nI (if av_m a l h i then av_cnt a l h i + 1 else av_cnt a l h i)
      rw [if_pos m]
    · show _ = nI (if av_m a l h i then av_cnt a l h i + 1 else av_cnt a l h i)
      rw [if_neg (by rw [m]; decide)]
theorem av_count0 {q p : Nat} (hq : q < 4) (hp : p ≤ 1) (h6 : a6 p = 0) (H : post 0) : wpX_countStates post (c, lv, li, w, a1, a2, a3, a4, a5, a6, a7, a8, a9, a10, a11, a12, a13, a14, a15, a16, a17) (nI q) (nI p) :=
  pk_loop (σ := Unit) (fun n i _ => wX_countStates_5 post (nI q) (nI p) c lv li w a1 a2 a3 a4 a5 a6 a7 a8 a9 a10 a11 a12 a13 a14 a15 a16 a17 n 0 (nI i)) (fun _ _ => True) 512 0 () (by omega) trivial
    (fun n _ _ => pk_le 512 512 (fun _ => H) (fun z => absurd z (by omega)))
    (fun n i _ hi _ hw => pk_le 512 i (fun z => absurd z (by omega)) (fun _ => av_isIn0 hq hp h6 (br_t rfl (nm_r (nI_1 i) (hw () trivial)))))
end
section
variable {c lv li w : Int32} {a1 a2 a3 a4 a5 a6 : Nat → Int32} {a7 : Nat → Int64} {a8 a9 a10 a11 : Nat → Int32} {a12 a13 : Nat → Int64} {a14 a15 a16 a17 : Nat → Int32}
/-! asked, valid -/
theorem av_asked {post : Int32 → Prop} {q p n : Nat} (hq : q < 4) (hp : p ≤ n) (hn : n ≤ 1) (H : post 1) : wpX_isAsked post (nI n, lv, li, w, a1, a2, a3, a4, a5, a6, a7, a8, a9, a10, a11, a12, a13, a14, a15, a16, a17) (nI q) (nI p) :=
  br_f (nI_pos (by omega)) (pk_lt 3 q (fun z => absurd z (by omega)) (fun _ => br_f (nI_pos (by omega)) (pk_lt n p (fun z => absurd z (by omega)) (fun _ => H))))
theorem av_nasked {post : Int32 → Prop} {x p : Int32} (hx : x < 0 ∨ 3 < x) (H : post 0) : wpX_isAsked post (c, lv, li, w, a1, a2, a3, a4, a5, a6, a7, a8, a9, a10, a11, a12, a13, a14, a15, a16, a17) x p := by
  by_cases h0 : x < 0
  · exact br_t h0 H
  · refine br_f h0 (br_t ?_ H)
    rcases hx with h | h
    · exact absurd h h0
    · exact h
theorem av_valid0 {post : Int32 → Prop} (H : post 1) : wpX_valid post (nI 0, lv, li, w, a1, a2, a3, a4, a5, a6, a7, a8, a9, a10, a11, a12, a13, a14, a15, a16, a17) := Exists.intro 1 (br_t (by decide) H)
theorem av_valid1 {post : Int32 → Prop} {o C : Int32} (h1 : a1 0 = o) (h4 : a4 0 = C) (hv : o = 4 ∨ o = 5 → C ≤ nI 1) (H : post 1) : wpX_valid post (nI 1, lv, li, w, a1, a2, a3, a4, a5, a6, a7, a8, a9, a10, a11, a12, a13, a14, a15, a16, a17) := by
  have K : ∃ n, wX_valid_2 post (nI 1) lv li w a1 a2 a3 a4 a5 a6 a7 a8 a9 a10 a11 a12 a13 a14 a15 a16 a17 n (nI 0) := by
    have K2 : wX_valid_2 post (nI 1) lv li w a1 a2 a3 a4 a5 a6 a7 a8 a9 a10 a11 a12 a13 a14 a15 a16 a17 1 (nI 1) := br_t (by decide) H
    have K3 : (o = 4 ∨ o = 5) → wX_valid_30 post (wX_valid_2 post (nI 1) lv li w a1 a2 a3 a4 a5 a6 a7 a8 a9 a10 a11 a12 a13 a14 a15 a16 a17 1) (nI 0) (nI 1) lv li w a1 a2 a3 a4 a5 a6 a7 a8 a9 a10 a11 a12 a13 a14 a15 a16 a17 := by
      intro ho
      refine And.intro (pk_in 0 20 (by omega)) (br_t ?_ (nm_r (nI_1 0) K2))
      rw [nI_clamp (show 0 < 2 ^ 31 by omega), h4]
      exact hv ho
    refine ⟨2, br_f (by decide) ⟨pk_in 0 20 (by omega), ?_⟩⟩
    rw [nI_clamp (show 0 < 2 ^ 31 by omega), h1]
    exact br_c (fun z => K3 (Or.inl z)) (fun z => ⟨pk_in 0 20 (by omega), br_c (fun z2 => K3 (Or.inr z2)) (fun _ => nm_r (nI_1 0) K2)⟩)
  exact K
theorem av_valid1f {post : Int32 → Prop} {o C : Int32} (h1 : a1 0 = o) (h4 : a4 0 = C) (ho : o = 4 ∨ o = 5) (hv : ¬ C ≤ nI 1) (H : post 0) : wpX_valid post (nI 1, lv, li, w, a1, a2, a3, a4, a5, a6, a7, a8, a9, a10, a11, a12, a13, a14, a15, a16, a17) := by
  have K : ∃ n, wX_valid_2 post (nI 1) lv li w a1 a2 a3 a4 a5 a6 a7 a8 a9 a10 a11 a12 a13 a14 a15 a16 a17 n (nI 0) := by
    have K3 : wX_valid_30 post (wX_valid_2 post (nI 1) lv li w a1 a2 a3 a4 a5 a6 a7 a8 a9 a10 a11 a12 a13 a14 a15 a16 a17 1) (nI 0) (nI 1) lv li w a1 a2 a3 a4 a5 a6 a7 a8 a9 a10 a11 a12 a13 a14 a15 a16 a17 := by
      refine And.intro (pk_in 0 20 (by omega)) (br_f ?_ H)
      rw [nI_clamp (show 0 < 2 ^ 31 by omega), h4]
      exact hv
    refine ⟨2, br_f (by decide) ⟨pk_in 0 20 (by omega), ?_⟩⟩
    rw [nI_clamp (show 0 < 2 ^ 31 by omega), h1]
    refine br_c (fun z => K3) (fun z => ⟨pk_in 0 20 (by omega), br_t ?_ K3⟩)
    rcases ho with h | h
    · exact absurd h z
    · exact h
  exact K
/-! count -/
theorem av_cntq {post : Int32 → St2 → Prop} {q p n : Nat} (hq : q < 4) (hp : p ≤ n) (hn : n ≤ 1) (V : ∀ post' : Int32 → Prop, post' 1 → wpX_valid post' (nI n, lv, li, w, a1, a2, a3, a4, a5, a6, a7, a8, a9, a10, a11, a12, a13, a14, a15, a16, a17))
    (K : wpX_analyse (fun u => wpX_countStates (fun r => post r u) u (nI q) (nI p)) (nI n, lv, li, w, a1, a2, a3, a4, a5, a6, a7, a8, a9, a10, a11, a12, a13, a14, a15, a16, a17) (nI q)) : wpX_count post (nI n, lv, li, w, a1, a2, a3, a4, a5, a6, a7, a8, a9, a10, a11, a12, a13, a14, a15, a16, a17) (nI q) (nI p) := by
  unfold wpX_count
  dsimp only
  refine av_asked hq hp hn ?_
  refine br_f (by decide) ?_
  refine V _ ?_
  refine br_f (by decide) ?_
  exact K
theorem av_cntb {post : Int32 → St2 → Prop} {x p : Int32} (hx : x < 0 ∨ 3 < x) (H : post (-1000) (c, lv, li, w, a1, a2, a3, a4, a5, a6, a7, a8, a9, a10, a11, a12, a13, a14, a15, a16, a17)) : wpX_count post (c, lv, li, w, a1, a2, a3, a4, a5, a6, a7, a8, a9, a10, a11, a12, a13, a14, a15, a16, a17) x p := by
  unfold wpX_count
  dsimp only
  refine av_nasked hx ?_
  exact br_t rfl H
theorem av_cnti {post : Int32 → St2 → Prop} {q p n : Nat} (hq : q < 4) (hp : p ≤ n) (hn : n ≤ 1) (V : ∀ post' : Int32 → Prop, post' 0 → wpX_valid post' (nI n, lv, li, w, a1, a2, a3, a4, a5, a6, a7, a8, a9, a10, a11, a12, a13, a14, a15, a16, a17)) (H : post (-1002) (nI n, lv, li, w, a1, a2, a3, a4, a5, a6, a7, a8, a9, a10, a11, a12, a13, a14, a15, a16, a17)) : wpX_count post (nI n, lv, li, w, a1, a2, a3, a4, a5, a6, a7, a8, a9, a10, a11, a12, a13, a14, a15, a16, a17) (nI q) (nI p) := by
  unfold wpX_count
  dsimp only
  refine av_asked hq hp hn ?_
  refine br_f (by decide) ?_
  refine V _ ?_
  exact br_t rfl H
/-! unreached -/
theorem av_unrb {post : Int32 → St2 → Prop} {x : Int32} (hx : x < 0 ∨ 3 < x) (H : post (-1000) (c, lv, li, w, a1, a2, a3, a4, a5, a6, a7, a8, a9, a10, a11, a12, a13, a14, a15, a16, a17)) : wpX_unreached post (c, lv, li, w, a1, a2, a3, a4, a5, a6, a7, a8, a9, a10, a11, a12, a13, a14, a15, a16, a17) x := by
  by_cases h0 : x < 0
  · exact br_t h0 H
  · refine br_f h0 (br_f ?_ H)
    rcases hx with h | h
    · exact absurd h h0
    · exact Int32.not_le.mpr h
theorem av_unri {post : Int32 → St2 → Prop} {q : Nat} (hq : q < 4) (V : ∀ post' : Int32 → Prop, post' 0 → wpX_valid post' (c, lv, li, w, a1, a2, a3, a4, a5, a6, a7, a8, a9, a10, a11, a12, a13, a14, a15, a16, a17)) (H : post (-1002) (c, lv, li, w, a1, a2, a3, a4, a5, a6, a7, a8, a9, a10, a11, a12, a13, a14, a15, a16, a17)) : wpX_unreached post (c, lv, li, w, a1, a2, a3, a4, a5, a6, a7, a8, a9, a10, a11, a12, a13, a14, a15, a16, a17) (nI q) := by
  refine br_f (nI_pos (by omega)) (pk_le q 3 (fun _ => ?_) (fun z => absurd z (by omega)))
  refine V _ ?_
  exact br_t rfl H
theorem av_unr0 {post : Int32 → St2 → Prop} {q : Nat} (hq : q < 4) (V : ∀ post' : Int32 → Prop, post' 1 → wpX_valid post' (nI 0, lv, li, w, a1, a2, a3, a4, a5, a6, a7, a8, a9, a10, a11, a12, a13, a14, a15, a16, a17)) (h5 : ¬ a5 q = 0) (h6 : a6 0 = av_b q) (H : post 0 (nI 0, lv, li, w, a1, a2, a3, a4, a5, a6, a7, a8, a9, a10, a11, a12, a13, a14, a15, a16, a17)) : wpX_unreached post (nI 0, lv, li, w, a1, a2, a3, a4, a5, a6, a7, a8, a9, a10, a11, a12, a13, a14, a15, a16, a17) (nI q) := by
  refine br_f (nI_pos (by omega)) (pk_le q 3 (fun _ => ?_) (fun z => absurd z (by omega)))
  refine V _ ?_
  refine br_f (by decide) ?_
  refine av_done hq h5 ?_
  dsimp only
  have K : wX_unreached_33 post (nI q) (nI 0) lv li w a1 a2 a3 a4 a5 a6 a7 a8 a9 a10 a11 a12 a13 a14 a15 a16 a17 2 0 (nI 0) := pk_lt 0 0 (fun z => absurd z (by omega)) (fun _ => av_filled hq (by omega) h6 (br_f (by decide) (nm_r (nI_1 0) (pk_lt 0 1 (fun _ => H) (fun z => absurd z (by omega))))))
  exact ⟨2, K⟩
theorem av_unr1 {post : Int32 → St2 → Prop} {q : Nat} {f : Bool} (hq : q < 4) (V : ∀ post' : Int32 → Prop, post' 1 → wpX_valid post' (nI 1, lv, li, w, a1, a2, a3, a4, a5, a6, a7, a8, a9, a10, a11, a12, a13, a14, a15, a16, a17)) (h5 : ¬ a5 q = 0) (h6 : a6 0 = av_b q) (h61 : a6 1 = if f then av_b q else 0) (H : post (if f then 0 else 1) (nI 1, lv, li, w, a1, a2, a3, a4, a5, a6, a7, a8, a9, a10, a11, a12, a13, a14, a15, a16, a17)) : wpX_unreached post (nI 1, lv, li, w, a1, a2, a3, a4, a5, a6, a7, a8, a9, a10, a11, a12, a13, a14, a15, a16, a17) (nI q) := by
  refine br_f (nI_pos (by omega)) (pk_le q 3 (fun _ => ?_) (fun z => absurd z (by omega)))
  refine V _ ?_
  refine br_f (by decide) ?_
  refine av_done hq h5 ?_
  dsimp only
  have K1 : wX_unreached_33 post (nI q) (nI 1) lv li w a1 a2 a3 a4 a5 a6 a7 a8 a9 a10 a11 a12 a13 a14 a15 a16 a17 2 0 (nI 1) := by
    refine pk_lt 1 1 (fun z => absurd z (by omega)) (fun _ => ?_)
    cases f with
    | true => exact av_filled hq (by omega) h61 (br_f (by decide) (nm_r (nI_1 1) (pk_lt 1 2 (fun _ => H) (fun z => absurd z (by omega)))))
    | false => exact av_unfilled hq (by omega) h61 (br_t rfl (nm_r (e' := (1 : Int32)) (by decide) (nm_r (nI_1 1) (pk_lt 1 2 (fun _ => H) (fun z => absurd z (by omega))))))
  have K : wX_unreached_33 post (nI q) (nI 1) lv li w a1 a2 a3 a4 a5 a6 a7 a8 a9 a10 a11 a12 a13 a14 a15 a16 a17 3 0 (nI 0) := pk_lt 1 0 (fun z => absurd z (by omega)) (fun _ => av_filled hq (by omega) h6 (br_f (by decide) (nm_r (nI_1 0) K1)))
  exact ⟨3, K⟩
/-! highest -/
theorem av_hi1 {post : Int32 → Prop} {a l h : Nat} (ha : a < 3) (hlh : l ≤ h) (hh : h < 8) (hP : av_N1 (fun k => a8 (3 * 1 + k)) a l h) (H : post (nI h)) : wpX_highestIn post (c, lv, li, w, a1, a2, a3, a4, a5, a6, a7, a8, a9, a10, a11, a12, a13, a14, a15, a16, a17) (nI 1) (nI a) := by
  have e := hP a ha
  dsimp only at e
  rw [av_lo_s, av_lo_s] at e
  have K : ∀ d, h + d ≤ 7 → wX_highestIn_10 post (nI 1) (nI a) c lv li w a1 a2 a3 a4 a5 a6 a7 a8 a9 a10 a11 a12 a13 a14 a15 a16 a17 (d + 1) (nI (h + d)) := by
    intro d
    induction d with
    | zero =>
      intro _
      refine And.intro (pk_in (3 * 1 + a) 63 (by omega) (av_ix (M := 3) 3 1 a)) (br_f ?_ H)
      rw [av_clo (M := 3) 3 1 a (by omega), e, av_S_bit l (by omega) h hh (h + 0) (by omega)]
      omega
    | succ d ih =>
      intro hd
      refine And.intro (pk_in (3 * 1 + a) 63 (by omega) (av_ix (M := 3) 3 1 a)) (br_t ?_ (nm_r (pk_m1 (h + d)) (ih (by omega))))
      rw [av_clo (M := 3) 3 1 a (by omega), e, av_S_bit l (by omega) h hh (h + (d + 1)) (by omega)]
      omega
  have K7 := K (7 - h) (by omega)
  rw [show h + (7 - h) = 7 by omega] at K7
  exact pk_eq a 3 (fun z => absurd z (by omega)) (fun _ => ⟨_, K7⟩)
theorem av_mo0 {post : Int32 → St2 → Prop} {a l h : Nat} (ha : a < 3) (hl : l < 8) (hh : h < 8) (h6 : a6 1 = av_b 0) (hP : av_P 0 1 a7 a8 a9 a10 a11 a l h) (H : post (av_mx a l h 512) (c, lv, li, w, a1, a2, a3, a4, a5, a6, a7, a8, a9, a10, a11, a12, a13, a14, a15, a16, a17)) : ∃ n, wX_mostOf_133 post (nI 1) (nI a) (nI 3) c lv li w a1 a2 a3 a4 a5 a6 a7 a8 a9 a10 a11 a12 a13 a14 a15 a16 a17 n (-100) 0 := by
  refine pk_loop (fun n i s => wX_mostOf_133 post (nI 1) (nI a) (nI 3) c lv li w a1 a2 a3 a4 a5 a6 a7 a8 a9 a10 a11 a12 a13 a14 a15 a16 a17 n s (nI i)) (fun i s => s = av_mx a l h i) 512 0 (-100) (by omega) rfl ?_ ?_
  · intro n s g
    subst g
    exact pk_le 512 512 (fun _ => H) (fun z => absurd z (by omega))
  · intro n i s hi g hw
    subst g
    have e : av_mx a l h (i + 1) = if av_m a l h i then (if nI (av_v i a) - 0 ≤ av_mx a l h i then av_mx a l h i else nI (av_v i a) - 0) else av_mx a l h i := rfl
    refine pk_le 512 i (fun z => absurd z (by omega)) (fun _ => av_isIn (q := 0) (by omega) (by omega) hi ha hl hh h6 hP (fun m => br_f (by decide) (av_value hi (by omega) (av_value (v := 3) hi (by omega) ?_))) (fun m => br_t rfl (nm_r (nI_1 i) (hw _ ?_))))
    · have v3 : nI (av_v i 3) = 0 := rfl
      rw [v3]
      refine nm_e (br_c (fun z => nm_r (nI_1 i) (hw _ ?_)) (fun z => nm_r (nI_1 i) (hw _ ?_)))
      · rw [e, if_pos m, if_pos z]
      · rw [e, if_pos m, if_neg z]
    · rw [e, if_neg (by rw [m]; decide)]
theorem av_most {post : Int32 → St2 → Prop} {q a l h : Nat} (hq : q < 4) (ha : a < 3) (hlh : l ≤ h) (hh : h < 8) (V : ∀ post' : Int32 → Prop, post' 1 → wpX_valid post' (c, lv, li, w, a1, a2, a3, a4, a5, a6, a7, a8, a9, a10, a11, a12, a13, a14, a15, a16, a17)) (h5 : ¬ a5 q = 0) (h6 : a6 1 = av_b q) (hP : av_P q 1 a7 a8 a9 a10 a11 a l h) (E : av_mx a l h 512 = nI h) (H : post (nI h) (c, lv, li, w, a1, a2, a3, a4, a5, a6, a7, a8, a9, a10, a11, a12, a13, a14, a15, a16, a17)) : wpX_mostOf post (c, lv, li, w, a1, a2, a3, a4, a5, a6, a7, a8, a9, a10, a11, a12, a13, a14, a15, a16, a17) (nI q) (nI 1) (nI a) (nI 3) := by
  unfold wpX_mostOf
  dsimp only
  refine V _ ?_
  refine br_f (by decide) ?_
  refine av_done hq h5 ?_
  dsimp only
  refine av_filled hq (by omega) h6 ?_
  refine br_f (by decide) (pk_eq a 3 (fun z => absurd z (by omega)) (fun _ => ?_))
  have H' : post (nI h - 0) (c, lv, li, w, a1, a2, a3, a4, a5, a6, a7, a8, a9, a10, a11, a12, a13, a14, a15, a16, a17) := by
    rw [Int32.sub_zero]
    exact H
  rcases (show q = 0 ∨ q = 1 ∨ q = 2 ∨ q = 3 by omega) with e | e | e | e
  · subst e
    refine pk_eq 0 1 (fun z => absurd z (by decide)) (fun _ => pk_eq 0 2 (fun z => absurd z (by decide)) (fun _ => pk_eq 0 3 (fun z => absurd z (by decide)) (fun _ => ?_)))
    refine av_mo0 ha (by omega) hh h6 hP ?_
    rw [E]
    exact H
  · subst e
    refine pk_eq 1 1 (fun _ => ?_) (fun z => absurd rfl z)
    refine av_hi1 ha hlh hh (hP.2.1 rfl) ?_
    exact br_t rfl H'
  · subst e
    refine pk_eq 2 1 (fun z => absurd z (by decide)) (fun _ => pk_eq 2 2 (fun _ => ?_) (fun z => absurd rfl z))
    refine pk_eq a 3 (fun z => absurd z (by omega)) (fun _ => ⟨pk_in (3 * 1 + a) 63 (by omega) (av_ix (M := 3) 3 1 a), ?_⟩)
    have t := (hP.2.2.1 rfl a ha).2
    dsimp only at t
    rw [av_lo_s] at t
    rw [av_clo (M := 3) 3 1 a (by omega), t]
    exact br_t rfl H'
  · subst e
    refine pk_eq 3 1 (fun z => absurd z (by decide)) (fun _ => pk_eq 3 2 (fun z => absurd z (by decide)) (fun _ => pk_eq 3 3 (fun _ => ⟨pk_in (16 * 1 + (4 * a + 3)) 336 (by omega) (av_ix2 1 a 3), ?_⟩) (fun z => absurd rfl z)))
    have t := hP.2.2.2 rfl a (by omega) 3 (by omega)
    dsimp only at t
    unfold av_B at t
    rw [if_neg (by omega), av_lo_s, av_lo_o (by omega), nI_0, Int32.sub_zero] at t
    rw [av_ix2, nI_clamp (show 16 * 1 + (4 * a + 3) < 2 ^ 31 by omega), t]
    exact H
theorem av_mostn {post : Int32 → St2 → Prop} {q : Nat} {A B : Int32} (hq : q < 4) (V : ∀ post' : Int32 → Prop, post' 1 → wpX_valid post' (c, lv, li, w, a1, a2, a3, a4, a5, a6, a7, a8, a9, a10, a11, a12, a13, a14, a15, a16, a17)) (h5 : ¬ a5 q = 0) (h6 : a6 1 = 0) (H : post (-1003) (c, lv, li, w, a1, a2, a3, a4, a5, a6, a7, a8, a9, a10, a11, a12, a13, a14, a15, a16, a17)) : wpX_mostOf post (c, lv, li, w, a1, a2, a3, a4, a5, a6, a7, a8, a9, a10, a11, a12, a13, a14, a15, a16, a17) (nI q) (nI 1) A B := by
  unfold wpX_mostOf
  dsimp only
  refine V _ ?_
  refine br_f (by decide) ?_
  refine av_done hq h5 ?_
  dsimp only
  refine av_unfilled hq (by omega) h6 ?_
  exact br_t rfl H
theorem av_high {post : Int32 → St2 → Prop} {q a : Nat} (hq : q < 4) (ha : a < 3) (H : wpX_mostOf post (nI 1, lv, li, w, a1, a2, a3, a4, a5, a6, a7, a8, a9, a10, a11, a12, a13, a14, a15, a16, a17) (nI q) (nI 1) (nI a) (nI 3)) : wpX_highest post (nI 1, lv, li, w, a1, a2, a3, a4, a5, a6, a7, a8, a9, a10, a11, a12, a13, a14, a15, a16, a17) (nI q) (nI 1) (nI a) := by
  unfold wpX_highest
  dsimp only
  refine av_asked hq (by omega) (by omega) ?_
  refine br_f (by decide) ?_
  refine br_f (nI_pos (by omega)) (pk_lt 2 a (fun z => absurd z (by omega)) (fun _ => ?_))
  exact br_f (by decide) H
theorem av_highb {post : Int32 → St2 → Prop} {q : Nat} {A : Int32} (hq : q < 4) (hA : A < 0 ∨ 2 < A) (H : post (-1000) (nI 1, lv, li, w, a1, a2, a3, a4, a5, a6, a7, a8, a9, a10, a11, a12, a13, a14, a15, a16, a17)) : wpX_highest post (nI 1, lv, li, w, a1, a2, a3, a4, a5, a6, a7, a8, a9, a10, a11, a12, a13, a14, a15, a16, a17) (nI q) (nI 1) A := by
  unfold wpX_highest
  dsimp only
  refine av_asked hq (by omega) (by omega) ?_
  refine br_f (by decide) ?_
  by_cases h0 : A < 0
  · exact br_t h0 (br_t rfl H)
  · refine br_f h0 (br_t ?_ (br_t rfl H))
    rcases hA with h | h
    · exact absurd h h0
    · exact h
end
section
variable {c lv li w : Int32} {a1 a2 a3 a4 a5 a6 : Nat → Int32} {a7 : Nat → Int64} {a8 a9 a10 a11 : Nat → Int32} {a12 a13 : Nat → Int64} {a14 a15 a16 a17 : Nat → Int32}
/-! emit -/
theorem av_emit {post : Int32 → St2 → Prop} {o A B C : Int32} (ho : ¬ o < 0) (ho6 : ¬ 6 < o) (FIT : ∀ post' : Int32 → Prop, post' 1 → wpX_operandsFit post' (0, lv, li, w, a1, a2, a3, a4, a5, a6, a7, a8, a9, a10, a11, a12, a13, a14, a15, a16, a17) o A B C)
    (H : ∀ s1 s2 s3 s4 s5, s1 0 = o.toInt8.toInt32 → s2 0 = A.toInt8.toInt32 → s3 0 = B.toInt8.toInt32 → s4 0 = C.toInt8.toInt32 → (∀ q, q < 4 → s5 q = 0) → post (nI 1) (nI 1, lv, li, w, s1, s2, s3, s4, s5, a6, a7, a8, a9, a10, a11, a12, a13, a14, a15, a16, a17)) : wpX_emit post (0, lv, li, w, a1, a2, a3, a4, a5, a6, a7, a8, a9, a10, a11, a12, a13, a14, a15, a16, a17) o A B C := by
  refine br_t (by decide) (br_f ho (br_f ho6 ?_))
  refine FIT _ ?_
  refine br_f (by decide) ?_
  unfold wpX_put
  dsimp only
  refine ⟨pk_in 0 20 (by omega), nm_e ⟨pk_in 0 20 (by omega), nm_e ⟨pk_in 0 20 (by omega), nm_e ⟨pk_in 0 20 (by omega), nm_e ?_⟩⟩⟩⟩
  refine av_change (fun s5 h5 => ?_)
  dsimp only
  refine nm_r (e' := nI 1) (by decide) (H _ _ _ _ s5 pk_us pk_us pk_us pk_us (fun q hq => ?_))
  rw [h5, av_fl_z hq]
theorem av_emitx {post : Int32 → St2 → Prop} {o A B C : Int32} (ho : o < 0 ∨ 6 < o) (H : post (-1000) (0, lv, li, w, a1, a2, a3, a4, a5, a6, a7, a8, a9, a10, a11, a12, a13, a14, a15, a16, a17)) : wpX_emit post (0, lv, li, w, a1, a2, a3, a4, a5, a6, a7, a8, a9, a10, a11, a12, a13, a14, a15, a16, a17) o A B C := by
  refine br_t (by decide) ?_
  by_cases h0 : o < 0
  · exact br_t h0 H
  · refine br_f h0 (br_t ?_ H)
    rcases ho with h | h
    · exact absurd h h0
    · exact h
theorem av_emitb {post : Int32 → St2 → Prop} {o A B C : Int32} (ho : ¬ o < 0) (ho6 : ¬ 6 < o) (FIT : ∀ post' : Int32 → Prop, post' 0 → wpX_operandsFit post' (0, lv, li, w, a1, a2, a3, a4, a5, a6, a7, a8, a9, a10, a11, a12, a13, a14, a15, a16, a17) o A B C) (H : post (-1000) (0, lv, li, w, a1, a2, a3, a4, a5, a6, a7, a8, a9, a10, a11, a12, a13, a14, a15, a16, a17)) : wpX_emit post (0, lv, li, w, a1, a2, a3, a4, a5, a6, a7, a8, a9, a10, a11, a12, a13, a14, a15, a16, a17) o A B C := by
  refine br_t (by decide) (br_f ho (br_f ho6 ?_))
  refine FIT _ ?_
  exact br_t rfl H
/-! the law from the first count on -/
variable {post : Int32 → St0 → Prop} {mc ms kc ks : Nat} {x1 x3 x4 x5 x6 x7 x10 x11 x12 x13 x14 z : Int32}
theorem av_tailN (hp : post 1 ()) (hx : x4 < 0 ∨ 3 < x4) : wL_lawOf_351 post mc ms x1 x3 x4 x5 x6 x7 x10 x11 0 x13 x14 z z kc ks c lv li w a1 a2 a3 a4 a5 a6 a7 a8 a9 a10 a11 a12 a13 a14 a15 a16 a17 := by
  refine br_t rfl ?_
  refine av_cntb hx ?_
  dsimp only
  refine br_t rfl (br_t rfl ?_)
  refine av_cntb hx ?_
  dsimp only
  refine br_t rfl (br_t rfl ?_)
  refine av_unrb hx ?_
  dsimp only
  refine br_t rfl (br_t rfl ?_)
  exact br_c (fun _ => hp) (fun _ => br_c (fun _ => hp) (fun _ => br_t rfl hp))
theorem av_tailI {q : Nat} (hp : post 1 ()) (hq : q < 4) (V : ∀ post' : Int32 → Prop, post' 0 → wpX_valid post' (nI 1, lv, li, w, a1, a2, a3, a4, a5, a6, a7, a8, a9, a10, a11, a12, a13, a14, a15, a16, a17)) : wL_lawOf_351 post mc ms x1 x3 (nI q) x5 x6 x7 1 0 1 x13 1 z z kc ks (nI 1) lv li w a1 a2 a3 a4 a5 a6 a7 a8 a9 a10 a11 a12 a13 a14 a15 a16 a17 := by
  refine br_t rfl ?_
  refine av_cnti (p := 1) hq (by omega) (by omega) V ?_
  dsimp only
  refine br_f (by decide) (br_f (by decide) (br_t rfl (br_t rfl ?_)))
  refine av_cnti (p := 0) hq (by omega) (by omega) V ?_
  dsimp only
  refine br_f (by decide) (br_f (by decide) (br_t rfl (br_t rfl ?_)))
  refine av_unri hq V ?_
  dsimp only
  refine br_f (by decide) (br_f (by decide) (br_t rfl (br_t rfl ?_)))
  exact br_f (by decide) (br_t rfl hp)
theorem av_cnt0 : nI (av_cnt 0 0 0 512) = 1 := by
  rw [av_cnt_pt 0 (by omega) 0 (by omega)]
  rfl
theorem av_tail0 {q : Nat} (hp : post 1 ()) (hq : q < 4) (h5 : a5 q = 0) (h60 : a6 0 = 0) (h61 : a6 1 = 0) : wL_lawOf_351 post mc ms x1 x3 (nI q) x5 x6 x7 0 x11 1 x13 0 z z kc ks (nI 0) 1 li w a1 a2 a3 a4 a5 a6 a7 a8 a9 a10 a11 a12 a13 a14 a15 a16 a17 := by
  refine br_t rfl ?_
  refine av_cntq (p := 0) hq (by omega) (by omega) (fun _ h => av_valid0 h) ?_
  refine av_an0 (a := 0) (l' := 0) (h := 0) hq h5 h60 h61 (fun m s5 s6 s7 s8 s9 s10 s11 s12 s13 s14 s15 s16 s17 hQ => ?_)
  refine av_count hq (by omega) (by omega) (by omega) (by omega) hQ.2.1 hQ.2.2.1 ?_
  rw [av_cnt0]
  dsimp only
  refine br_f (by decide) (br_t rfl (br_t rfl ?_))
  refine av_cntq (p := 0) hq (by omega) (by omega) (fun _ h => av_valid0 h) ?_
  refine av_done hq hQ.1 ?_
  refine av_count hq (by omega) (by omega) (by omega) (by omega) hQ.2.1 hQ.2.2.1 ?_
  rw [av_cnt0]
  dsimp only
  refine br_f (by decide) (br_t rfl (br_t rfl ?_))
  refine av_unr0 hq (fun _ h => av_valid0 h) hQ.1 hQ.2.1 ?_
  dsimp only
  exact br_f (by decide) (br_t rfl (br_t rfl (br_t rfl hp)))
theorem av_inT {post : Int32 → Prop} {v lo hi : Int32} (h1 : ¬ v < lo) (h2 : ¬ hi < v) (H : post 1) : wpL_in post () v lo hi := br_f h1 (br_f h2 H)
theorem av_inF {post : Int32 → Prop} {v lo hi : Int32} (h : v < lo ∨ hi < v) (H : post 0) : wpL_in post () v lo hi := by
  by_cases h0 : v < lo
  · exact br_t h0 H
  · refine br_f h0 (br_t ?_ H)
    rcases h with h | h
    · exact absurd h h0
    · exact h
/-- the last check -/
theorem av_last {q a l' h : Nat} {f : Bool} (hp : post 1 ()) (hq : q < 4) (ha : a < 3) (hlh : l' ≤ h) (hh : h < 8) (V : ∀ post' : Int32 → Prop, post' 1 → wpX_valid post' (nI 1, lv, li, w, a1, a2, a3, a4, a5, a6, a7, a8, a9, a10, a11, a12, a13, a14, a15, a16, a17)) (hQ : av_Q q 1 f a l' h a5 a6 a7 a8 a9 a10 a11)
    (hx0 : f = false → x13 = 0) (hx1 : f = true → ¬ x13 = 0) (E : av_mx a l' h 512 = nI h) (HA : ∀ k, k < 3 → x1 = nI k → f = true → k = a)
    (HE : f = true → (x7 = 0 → (x5 = 0 → (x6 = 0 → nI h = 0) ∧ (¬ x6 = 0 → nI h = x3)) ∧ (¬ x5 = 0 → nI h = x3)) ∧ (¬ x7 = 0 → nI h = 7)) :
    wL_lawOf_492 post mc ms x1 x3 (nI q) x5 x6 x7 1 1 1 x13 z z kc ks (nI 1) lv li w a1 a2 a3 a4 a5 a6 a7 a8 a9 a10 a11 a12 a13 a14 a15 a16 a17 := by
  refine br_t rfl (br_f (by decide) (br_f (by decide) (br_f (by decide) ?_)))
  by_cases hv : x1 < 0 ∨ 2 < x1
  · refine av_highb hq hv ?_
    dsimp only
    refine av_inF hv ?_
    exact br_t rfl (br_t rfl hp)
  · have n0 : ¬ x1 < 0 := fun g => hv (Or.inl g)
    have n2 : ¬ 2 < x1 := fun g => hv (Or.inr g)
    obtain ⟨k, hk, e⟩ := nI_of2 (M := 2) (n := 2) (by decide) n0 (Int32.not_lt.mp n2)
    subst e
    refine av_high hq (by omega) ?_
    cases f with
    | false =>
      refine av_mostn hq V hQ.1 (hQ.2.2.2.1 rfl) ?_
      dsimp only
      refine av_inT n0 n2 ?_
      exact br_f (by decide) (br_t (hx0 rfl) (br_t rfl hp))
    | true =>
      have ek := HA k (by omega) rfl rfl
      subst ek
      refine av_most hq ha hlh hh V hQ.1 (hQ.2.2.2.1 rfl) (hQ.2.2.2.2 rfl) E ?_
      dsimp only
      refine av_inT n0 n2 ?_
      have g := HE rfl
      exact br_f (by decide) (br_f (hx1 rfl) (br_c (fun z7 => br_c (fun z5 => br_c (fun z6 => br_t (((g.1 z7).1 z5).1 z6) hp) (fun z6 => br_t (((g.1 z7).1 z5).2 z6) hp)) (fun z5 => br_t ((g.1 z7).2 z5) hp)) (fun z7 => br_t (g.2 z7) hp)))
theorem av_tail1 {q a l' h d : Nat} {f : Bool} (hp : post 1 ()) (hq : q < 4) (ha : a < 3) (hlh : l' ≤ h) (hh : h < 8)
    (V : ∀ (post' : Int32 → Prop) m w' s5 s6 s7 s8 s9 s10 s11 s12 s13 s14 s15 s16 s17, post' 1 → wpX_valid post' (nI 1, 1, m, w', a1, a2, a3, a4, s5, s6, s7, s8, s9, s10, s11, s12, s13, s14, s15, s16, s17))
    (AN : ∀ post' : St2 → Prop, (∀ m s5 s6 s7 s8 s9 s10 s11 s12 s13 s14 s15 s16 s17, av_Q q 1 f a l' h s5 s6 s7 s8 s9 s10 s11 → post' (nI 1, 1, m, 0, a1, a2, a3, a4, s5, s6, s7, s8, s9, s10, s11, s12, s13, s14, s15, s16, s17)) → wpX_analyse post' (nI 1, 1, li, w, a1, a2, a3, a4, a5, a6, a7, a8, a9, a10, a11, a12, a13, a14, a15, a16, a17) (nI q))
    (hd : f = true → av_cnt a l' h 512 = d) (hd0 : f = false → d = 0) (hd1 : f = true → 0 < d) (hd8 : d ≤ 8) (E : av_mx a l' h 512 = nI h) (HA : ∀ k, k < 3 → x1 = nI k → f = true → k = a)
    (HE : f = true → (x7 = 0 → (x5 = 0 → (x6 = 0 → nI h = 0) ∧ (¬ x6 = 0 → nI h = x3)) ∧ (¬ x5 = 0 → nI h = x3)) ∧ (¬ x7 = 0 → nI h = 7)) :
    wL_lawOf_351 post mc ms x1 x3 (nI q) x5 x6 x7 1 1 1 (nI d) 1 z z kc ks (nI 1) 1 li w a1 a2 a3 a4 a5 a6 a7 a8 a9 a10 a11 a12 a13 a14 a15 a16 a17 := by
  refine br_t rfl ?_
  refine av_cntq (p := 1) hq (by omega) (by omega) (fun _ h => V _ _ _ _ _ _ _ _ _ _ _ _ _ _ _ _ h) ?_
  refine AN _ (fun m s5 s6 s7 s8 s9 s10 s11 s12 s13 s14 s15 s16 s17 hQ => ?_)
  have K : ∀ post' : Int32 → Prop, post' (nI d) → wpX_countStates post' (nI 1, 1, m, 0, a1, a2, a3, a4, s5, s6, s7, s8, s9, s10, s11, s12, s13, s14, s15, s16, s17) (nI q) (nI 1) := by
    intro post' g
    cases f with
    | false =>
      refine av_count0 hq (by omega) (hQ.2.2.2.1 rfl) ?_
      rw [hd0 rfl] at g
      exact g
    | true =>
      refine av_count hq (by omega) ha (by omega) hh (hQ.2.2.2.1 rfl) (hQ.2.2.2.2 rfl) ?_
      rw [hd rfl]
      exact g
  refine K _ ?_
  dsimp only
  refine br_f (by decide) (br_f (by decide) (br_f (by decide) (br_t rfl ?_)))
  refine av_cntq (p := 0) hq (by omega) (by omega) (fun _ h => V _ _ _ _ _ _ _ _ _ _ _ _ _ _ _ _ h) ?_
  refine av_done hq hQ.1 ?_
  refine av_count hq (by omega) (by omega) (by omega) (by omega) hQ.2.1 hQ.2.2.1 ?_
  rw [av_cnt0]
  dsimp only
  refine br_f (by decide) (br_f (by decide) (br_f (by decide) (br_t rfl ?_)))
  refine av_unr1 (f := f) hq (fun _ h => V _ _ _ _ _ _ _ _ _ _ _ _ _ _ _ _ h) hQ.1 hQ.2.1 (hQ.2.2.2.1 rfl) ?_
  dsimp only
  refine br_f (by decide) (br_f (by decide) (br_f (by decide) ?_))
  have n0 : f = true → ¬ nI d = 0 := fun g => nI_ne0 (hd1 g) (by omega)
  have e0 : f = false → nI d = 0 := fun g => by
    rw [hd0 g]
    rfl
  cases f with
  | false => exact br_t (e0 rfl) (av_last hp hq ha hlh hh (fun _ h => V _ _ _ _ _ _ _ _ _ _ _ _ _ _ _ _ h) hQ e0 n0 E HA HE)
  | true => exact br_f (n0 rfl) (av_last hp hq ha hlh hh (fun _ h => V _ _ _ _ _ _ _ _ _ _ _ _ _ _ _ _ h) hQ e0 n0 E HA HE)
end
section
variable {c lv li w : Int32} {a1 a2 a3 a4 a5 a6 : Nat → Int32} {a7 : Nat → Int64} {a8 a9 a10 a11 : Nat → Int32} {a12 a13 : Nat → Int64} {a14 a15 a16 a17 : Nat → Int32}
/-! operandsFit -/
theorem av_fit0 {post : Int32 → Prop} {A B C : Int32} (H1 : (¬ A < 0 ∧ ¬ 2 < A) ∧ (¬ C < 0 ∧ ¬ 7 < C) → post 1) (H0 : ¬ ((¬ A < 0 ∧ ¬ 2 < A) ∧ (¬ C < 0 ∧ ¬ 7 < C)) → post 0) : wpX_operandsFit post (c, lv, li, w, a1, a2, a3, a4, a5, a6, a7, a8, a9, a10, a11, a12, a13, a14, a15, a16, a17) 0 A B C :=
  br_t rfl (br_c (fun a0 => br_t rfl (H0 (fun g => g.1.1 a0))) (fun a0 => br_c (fun a2 => br_t rfl (H0 (fun g => g.1.2 a2))) (fun a2 => br_f (by decide) (br_c (fun c0 => H0 (fun g => g.2.1 c0)) (fun c0 => br_c (fun c7 => H0 (fun g => g.2.2 c7)) (fun c7 => H1 ⟨⟨a0, a2⟩, c0, c7⟩))))))
theorem av_3 {A : Int32} : 3 ≤ A ↔ 2 < A := by
  rw [Int32.le_iff_toInt_le, Int32.lt_iff_toInt_lt, show (3 : Int32).toInt = 3 by decide, show (2 : Int32).toInt = 2 by decide]
  omega
theorem av_fit1 {post : Int32 → Prop} {A B C : Int32} (H1 : (¬ A < 0 ∧ ¬ 2 < A) ∧ (¬ B < 0 ∧ ¬ 3 < B) ∧ (¬ C < (-7) ∧ ¬ 7 < C) → post 1) (H0 : ¬ ((¬ A < 0 ∧ ¬ 2 < A) ∧ (¬ B < 0 ∧ ¬ 3 < B) ∧ (¬ C < (-7) ∧ ¬ 7 < C)) → post 0) : wpX_operandsFit post (c, lv, li, w, a1, a2, a3, a4, a5, a6, a7, a8, a9, a10, a11, a12, a13, a14, a15, a16, a17) 1 A B C :=
  br_f (by decide) (br_f (by decide) (br_f (by decide) (br_f (by decide) (br_f (by decide)
    (br_c (fun h => br_t rfl (H0 (fun g => g.1.1 h))) (fun a0 => br_c (fun h => br_t rfl (H0 (fun g => g.1.2 (Int32.lt_trans (by decide) h)))) (fun a3 =>
      br_c (fun h => br_t rfl (H0 (fun g => g.2.1.1 h))) (fun b0 => br_c (fun h => br_t rfl (H0 (fun g => g.2.1.2 h))) (fun b3 =>
        br_c (fun h => br_t rfl (H0 (fun g => g.2.2.1 h))) (fun c0 => br_c (fun h => br_t rfl (H0 (fun g => g.2.2.2 h))) (fun c7 =>
          br_f (by decide) (br_t rfl (br_c (fun h => H0 (fun g => g.1.2 (av_3.mp h))) (fun h => H1 ⟨⟨a0, fun z => h (av_3.mpr z)⟩, ⟨b0, b3⟩, c0, c7⟩))))))))))))))
theorem av_fit2 {post : Int32 → Prop} {A B C : Int32} (H1 : ¬ A < 0 ∧ ¬ 2 < A → post 1) (H0 : ¬ (¬ A < 0 ∧ ¬ 2 < A) → post 0) : wpX_operandsFit post (c, lv, li, w, a1, a2, a3, a4, a5, a6, a7, a8, a9, a10, a11, a12, a13, a14, a15, a16, a17) 2 A B C :=
  br_f (by decide) (br_t rfl (br_c (fun h => ⟨av_nb (Or.inl rfl), H0 (fun g => g.1 h)⟩) (fun a0 => br_c (fun h => ⟨av_nb (Or.inl rfl), H0 (fun g => g.2 h)⟩) (fun a2 => ⟨av_nb (Or.inr rfl), H1 ⟨a0, a2⟩⟩))))
theorem av_fit3 {post : Int32 → Prop} {A B C : Int32} (H1 : (¬ A < 0 ∧ ¬ 3 < A) ∧ (¬ B < 0 ∧ ¬ 3 < B) ∧ ¬ A = B ∧ (¬ C < (-7) ∧ ¬ 7 < C) → post 1) (H0 : ¬ ((¬ A < 0 ∧ ¬ 3 < A) ∧ (¬ B < 0 ∧ ¬ 3 < B) ∧ ¬ A = B ∧ (¬ C < (-7) ∧ ¬ 7 < C)) → post 0) : wpX_operandsFit post (c, lv, li, w, a1, a2, a3, a4, a5, a6, a7, a8, a9, a10, a11, a12, a13, a14, a15, a16, a17) 3 A B C :=
  br_f (by decide) (br_f (by decide) (br_f (by decide) (br_f (by decide) (br_f (by decide)
    (br_c (fun h => br_t rfl (H0 (fun g => g.1.1 h))) (fun a0 => br_c (fun h => br_t rfl (H0 (fun g => g.1.2 h))) (fun a3 =>
      br_c (fun h => br_t rfl (H0 (fun g => g.2.1.1 h))) (fun b0 => br_c (fun h => br_t rfl (H0 (fun g => g.2.1.2 h))) (fun b3 =>
        br_c (fun h => br_t rfl (H0 (fun g => g.2.2.2.1 h))) (fun c0 => br_c (fun h => br_t rfl (H0 (fun g => g.2.2.2.2 h))) (fun c7 =>
          br_f (by decide) (br_f (by decide) (br_c (fun h => H0 (fun g => g.2.2.1 h)) (fun h => H1 ⟨⟨a0, a3⟩, ⟨b0, b3⟩, h, c0, c7⟩))))))))))))))
theorem av_fit4 {post : Int32 → Prop} {A B C : Int32} (H1 : ¬ C < 0 ∧ ¬ 20 < C → post 1) (H0 : ¬ (¬ C < 0 ∧ ¬ 20 < C) → post 0) : wpX_operandsFit post (c, lv, li, w, a1, a2, a3, a4, a5, a6, a7, a8, a9, a10, a11, a12, a13, a14, a15, a16, a17) 4 A B C :=
  br_f (by decide) (br_f (by decide) (br_t rfl (br_c (fun h => H0 (fun g => g.1 h)) (fun c0 => br_c (fun h => H0 (fun g => g.2 h)) (fun c2 => H1 ⟨c0, c2⟩)))))
theorem av_fit5 {post : Int32 → Prop} {A B C : Int32} (H1 : ¬ C < 0 ∧ ¬ 20 < C → post 1) (H0 : ¬ (¬ C < 0 ∧ ¬ 20 < C) → post 0) : wpX_operandsFit post (c, lv, li, w, a1, a2, a3, a4, a5, a6, a7, a8, a9, a10, a11, a12, a13, a14, a15, a16, a17) 5 A B C :=
  br_f (by decide) (br_f (by decide) (br_f (by decide) (br_t rfl (br_c (fun h => H0 (fun g => g.1 h)) (fun c0 => br_c (fun h => H0 (fun g => g.2 h)) (fun c2 => H1 ⟨c0, c2⟩))))))
theorem av_fit6 {post : Int32 → Prop} {A B C : Int32} (H1 : post 1) : wpX_operandsFit post (c, lv, li, w, a1, a2, a3, a4, a5, a6, a7, a8, a9, a10, a11, a12, a13, a14, a15, a16, a17) 6 A B C :=
  br_f (by decide) (br_f (by decide) (br_f (by decide) (br_f (by decide) (br_t rfl H1))))
/-! the law's object is made, the statement emitted -/
def av_far (x12 x4 : Int32) : Prop := (x12 = 1 ∧ ∃ q, q < 4 ∧ x4 = nI q) ∨ (x12 = 0 ∧ (x4 < 0 ∨ 3 < x4))
theorem av_farI {post : Int32 → Prop} {x4 : Int32} (H : ∀ x12, av_far x12 x4 → post x12) : wpL_in post () x4 0 3 := by
  refine br_c (fun z => H 0 (Or.inr ⟨rfl, Or.inl z⟩)) (fun z => br_c (fun z2 => H 0 (Or.inr ⟨rfl, Or.inr z2⟩)) (fun z2 => H 1 (Or.inl ⟨rfl, ?_⟩)))
  obtain ⟨q, hq, e⟩ := nI_of2 (M := 3) (n := 3) (by decide) z (Int32.not_lt.mp z2)
  exact ⟨q, by omega, e⟩
theorem av_init {post : St2 → Prop} (H : post (0, 1, 0, 0, (fun _ => 0), (fun _ => 0), (fun _ => 0), (fun _ => 0), (fun _ => 0), (fun _ => 0), (fun _ => 0), (fun _ => 0), (fun _ => 0), (fun _ => 0), (fun _ => 0), (fun _ => 0), (fun _ => 0), (fun _ => 0), (fun _ => 0), (fun _ => 0), (fun _ => 0))) : wpX_init post 17 839 (0, 0, 0, 0) := by
  unfold wpX_init
  dsimp only
  repeat' apply And.intro
  all_goals first | exact H | omega
variable {post : Int32 → St0 → Prop} {x5 x6 x7 x12 x13 o A B C x4 : Int32}
theorem av_294b (hp : post 1 ()) (F : av_far x12 x4) (EM : ∀ post' : Int32 → St2 → Prop, post' (-1000) (0, 1, 0, 0, (fun _ => 0), (fun _ => 0), (fun _ => 0), (fun _ => 0), (fun _ => 0), (fun _ => 0), (fun _ => 0), (fun _ => 0), (fun _ => 0), (fun _ => 0), (fun _ => 0), (fun _ => 0), (fun _ => 0), (fun _ => 0), (fun _ => 0), (fun _ => 0), (fun _ => 0)) → wpX_emit post' (0, 1, 0, 0, (fun _ => 0), (fun _ => 0), (fun _ => 0), (fun _ => 0), (fun _ => 0), (fun _ => 0), (fun _ => 0), (fun _ => 0), (fun _ => 0), (fun _ => 0), (fun _ => 0), (fun _ => 0), (fun _ => 0), (fun _ => 0), (fun _ => 0), (fun _ => 0), (fun _ => 0)) o A B C) : wL_lawOf_294 post 326 5200 o A B C x4 0 0 0 0 1 x12 x13 0 0 0 := by
  refine And.intro (by omega) ⟨by omega, 17, 839, by omega, by omega, av_init ?_⟩
  dsimp only
  refine EM _ ?_
  dsimp only
  refine br_t rfl (br_t rfl ?_)
  refine av_valid0 ?_
  refine br_t rfl ?_
  unfold wL_lawOf_346
  rcases F with ⟨rfl, q, hq, rfl⟩ | ⟨rfl, hx⟩
  · exact av_tail0 hp hq rfl rfl rfl
  · exact av_tailN hp hx
theorem av_294i (hp : post 1 ()) (F : av_far x12 x4) (EM : ∀ post' : Int32 → St2 → Prop, (∀ s1 s2 s3 s4 s5, s1 0 = o → s4 0 = C → post' (nI 1) (nI 1, 1, 0, 0, s1, s2, s3, s4, s5, (fun _ => 0), (fun _ => 0), (fun _ => 0), (fun _ => 0), (fun _ => 0), (fun _ => 0), (fun _ => 0), (fun _ => 0), (fun _ => 0), (fun _ => 0), (fun _ => 0), (fun _ => 0))) → wpX_emit post' (0, 1, 0, 0, (fun _ => 0), (fun _ => 0), (fun _ => 0), (fun _ => 0), (fun _ => 0), (fun _ => 0), (fun _ => 0), (fun _ => 0), (fun _ => 0), (fun _ => 0), (fun _ => 0), (fun _ => 0), (fun _ => 0), (fun _ => 0), (fun _ => 0), (fun _ => 0), (fun _ => 0)) o A B C) (ho : o = 4 ∨ o = 5) (hC : ¬ C ≤ nI 1) : wL_lawOf_294 post 326 5200 o A B C x4 x5 x6 x7 1 0 x12 x13 1 0 0 := by
  refine And.intro (by omega) ⟨by omega, 17, 839, by omega, by omega, av_init ?_⟩
  dsimp only
  refine EM _ (fun s1 s2 s3 s4 s5 h1 h4 => ?_)
  dsimp only
  refine br_f (by decide) (br_t rfl ?_)
  refine av_valid1f h1 h4 ho hC ?_
  refine br_f (by decide) (br_t rfl ?_)
  rcases F with ⟨rfl, q, hq, rfl⟩ | ⟨rfl, hx⟩
  · exact av_tailI hp hq (fun _ h => av_valid1f h1 h4 ho hC h)
  · exact av_tailN hp hx
theorem av_294g {a l' h d : Nat} {f : Bool} (hp : post 1 ()) (F : av_far x12 x4)
    (EM : ∀ post' : Int32 → St2 → Prop, (∀ s1 s2 s3 s4 s5, s1 0 = o.toInt8.toInt32 → s2 0 = A.toInt8.toInt32 → s3 0 = B.toInt8.toInt32 → s4 0 = C.toInt8.toInt32 → (∀ q, q < 4 → s5 q = 0) → post' (nI 1) (nI 1, 1, 0, 0, s1, s2, s3, s4, s5, (fun _ => 0), (fun _ => 0), (fun _ => 0), (fun _ => 0), (fun _ => 0), (fun _ => 0), (fun _ => 0), (fun _ => 0), (fun _ => 0), (fun _ => 0), (fun _ => 0), (fun _ => 0))) → wpX_emit post' (0, 1, 0, 0, (fun _ => 0), (fun _ => 0), (fun _ => 0), (fun _ => 0), (fun _ => 0), (fun _ => 0), (fun _ => 0), (fun _ => 0), (fun _ => 0), (fun _ => 0), (fun _ => 0), (fun _ => 0), (fun _ => 0), (fun _ => 0), (fun _ => 0), (fun _ => 0), (fun _ => 0)) o A B C)
    (KR : f = true → av_kR o.toInt8.toInt32 A.toInt8.toInt32 B.toInt8.toInt32 C.toInt8.toInt32 a l' h) (KS : f = false → av_kS o.toInt8.toInt32 A.toInt8.toInt32 B.toInt8.toInt32 C.toInt8.toInt32)
    (hv : o.toInt8.toInt32 = 4 ∨ o.toInt8.toInt32 = 5 → C.toInt8.toInt32 ≤ nI 1) (ha : a < 3) (hlh : l' ≤ h) (hh : h < 8)
    (hd : f = true → av_cnt a l' h 512 = d) (hd0 : f = false → d = 0) (hd1 : f = true → 0 < d) (hd8 : d ≤ 8) (E : av_mx a l' h 512 = nI h) (HA : ∀ k, k < 3 → A = nI k → f = true → k = a)
    (HE : f = true → (x7 = 0 → (x5 = 0 → (x6 = 0 → nI h = 0) ∧ (¬ x6 = 0 → nI h = C)) ∧ (¬ x5 = 0 → nI h = C)) ∧ (¬ x7 = 0 → nI h = 7)) :
    wL_lawOf_294 post 326 5200 o A B C x4 x5 x6 x7 1 1 x12 (nI d) 1 0 0 := by
  refine And.intro (by omega) ⟨by omega, 17, 839, by omega, by omega, av_init ?_⟩
  dsimp only
  refine EM _ (fun s1 s2 s3 s4 s5 h1 h2 h3 h4 h5 => ?_)
  dsimp only
  refine br_f (by decide) (br_t rfl ?_)
  refine av_valid1 h1 h4 hv ?_
  refine br_f (by decide) (br_f (by decide) ?_)
  unfold wL_lawOf_346
  rcases F with ⟨rfl, q, hq, rfl⟩ | ⟨rfl, hx⟩
  · refine av_tail1 (f := f) (a := a) (l' := l') (h := h) hp hq ha hlh hh (fun _ _ _ _ _ _ _ _ _ _ _ _ _ _ _ _ g => av_valid1 h1 h4 hv g) ?_ hd hd0 hd1 hd8 E HA HE
    intro post' K
    cases f with
    | true => exact av_anR hq (KR rfl) h1 h2 h3 h4 (h5 q hq) rfl rfl K
    | false => exact av_anS hq (KS rfl) h1 h2 h3 h4 (h5 q hq) rfl rfl K
  · exact av_tailN hp hx
end
section
variable {post : Int32 → St0 → Prop} {o A B C x4 : Int32}
theorem av_i21 : ∀ k, k < 21 → (nI k).toInt8.toInt32 = nI k := by decide +kernel
theorem av_i8n : ∀ k, k < 8 → (- nI k).toInt8.toInt32 = - nI k := by decide +kernel
theorem av_neg {C : Int32} (h : C < 0) (h7 : ¬ C < (-7)) : ∃ k, k < 8 ∧ 1 ≤ k ∧ C = - nI k := by
  rw [Int32.lt_iff_toInt_lt, show (0 : Int32).toInt = 0 by decide] at h
  rw [Int32.lt_iff_toInt_lt, show (-7 : Int32).toInt = -7 by decide] at h7
  refine ⟨(- C.toInt).toNat, by omega, by omega, ?_⟩
  apply Int32.toInt_inj.mp
  rw [sb_negT (by omega)]
  omega
theorem av_pick (A : Int32) : ∃ a, a < 3 ∧ ∀ k, k < 3 → A = nI k → k = a := by
  by_cases h : ∃ k, k < 3 ∧ A = nI k
  · obtain ⟨k, hk, e⟩ := h
    refine ⟨k, hk, fun j hj ej => ?_⟩
    exact (nI_eq (by omega) (by omega)).mp (ej.symm.trans e)
  · exact ⟨0, by omega, fun k hk e => absurd ⟨k, hk, e⟩ h⟩
theorem av_inx {post : Int32 → Prop} {v lo hi : Int32} (H1 : ¬ v < lo → ¬ hi < v → post 1) (H0 : post 0) : wpL_in post () v lo hi := br_c (fun _ => H0) (fun z => br_c (fun _ => H0) (fun z2 => H1 z z2))
theorem av_163b (hp : post 1 ()) (ho : ¬ o = 6) (EM : ∀ post' : Int32 → St2 → Prop, post' (-1000) (0, 1, 0, 0, (fun _ => 0), (fun _ => 0), (fun _ => 0), (fun _ => 0), (fun _ => 0), (fun _ => 0), (fun _ => 0), (fun _ => 0), (fun _ => 0), (fun _ => 0), (fun _ => 0), (fun _ => 0), (fun _ => 0), (fun _ => 0), (fun _ => 0), (fun _ => 0), (fun _ => 0)) → wpX_emit post' (0, 1, 0, 0, (fun _ => 0), (fun _ => 0), (fun _ => 0), (fun _ => 0), (fun _ => 0), (fun _ => 0), (fun _ => 0), (fun _ => 0), (fun _ => 0), (fun _ => 0), (fun _ => 0), (fun _ => 0), (fun _ => 0), (fun _ => 0), (fun _ => 0), (fun _ => 0), (fun _ => 0)) o A B C) : wL_lawOf_163 post 326 5200 o A B C x4 0 0 0 0 0 0 0 := by
  refine br_t rfl (br_t rfl (br_t rfl (br_t rfl (br_t rfl (br_f ho (br_t rfl ?_))))))
  unfold wL_lawOf_213 wL_lawOf_218
  refine av_farI (fun x12 F => ?_)
  refine br_t rfl (br_t rfl (br_t rfl (br_t rfl ?_)))
  exact br_c (fun _ => br_t rfl (av_294b hp F EM)) (fun _ => br_c (fun _ => br_c (fun _ => br_t rfl (av_294b hp F EM)) (fun _ => br_t rfl (av_294b hp F EM))) (fun _ => br_t rfl (av_294b hp F EM)))
theorem av_op0 (hp : post 1 ()) : wpL_lawOf post 326 5200 () 0 A B C x4 := by
  by_cases hc : (¬ A < 0 ∧ ¬ 2 < A) ∧ (¬ C < 0 ∧ ¬ 7 < C)
  · have hc' := hc
    obtain ⟨⟨a0, a2⟩, c0, c7⟩ := hc
    obtain ⟨a, ha, ea⟩ := nI_of2 (M := 2) (n := 2) (by decide) a0 (Int32.not_lt.mp a2)
    obtain ⟨k, hk, ek⟩ := nI_of2 (M := 7) (n := 7) (by decide) c0 (Int32.not_lt.mp c7)
    subst ea
    subst ek
    refine br_t rfl ?_
    refine av_inT a0 a2 ?_
    refine br_f (by decide) ?_
    refine av_inT c0 c7 ?_
    refine br_f (by decide) ?_
    refine br_f (by decide) (br_f (by decide) (br_f (by decide) (br_f (by decide) (br_f (by decide) ?_))))
    refine br_f (by decide) (br_t rfl ?_)
    unfold wL_lawOf_213 wL_lawOf_218
    refine av_farI (fun x12 F => ?_)
    refine br_t rfl (br_f (by decide) (br_f (by decide) ?_))
    exact av_294g (f := true) (a := a) (l' := k) (h := k) (d := 1) hp F (fun _ H => av_emit (by decide) (by decide) (fun _ h => av_fit0 (fun _ => h) (fun z => absurd hc' z)) H)
      (fun _ => Or.inl (Or.inl ⟨by decide, by omega, by omega, rfl, av_i8 a (by omega), av_i8 k (by omega)⟩)) (fun z => absurd z (by decide)) (fun z => absurd z (by decide)) (by omega) (Nat.le_refl k) (by omega)
      (fun _ => av_cnt_pt a (by omega) k (by omega)) (fun z => absurd z (by decide)) (fun _ => by omega) (by omega) (av_mx_pt a (by omega) k (by omega)) (fun j hj e _ => ((nI_eq (by omega) (by omega)).mp e).symm)
      (fun _ => ⟨fun _ => ⟨fun z => absurd z (by decide), fun _ => rfl⟩, fun z => absurd rfl z⟩)
  · have K : wL_lawOf_27 post 326 5200 0 A B C x4 0 0 := br_f (by decide) (br_f (by decide) (br_f (by decide) (br_f (by decide) (br_f (by decide) (av_163b hp (by decide) (fun _ H => av_emitb (by decide) (by decide) (fun _ h => av_fit0 (fun z => absurd z hc) (fun _ => h)) H))))))
    refine br_t rfl ?_
    exact av_inx (fun a0 a2 => br_f (by decide) (av_inx (fun c0 c7 => absurd ⟨⟨a0, a2⟩, c0, c7⟩ hc) (br_t rfl K))) (br_t rfl K)
theorem av_op1 (hp : post 1 ()) : wpL_lawOf post 326 5200 () 1 A B C x4 := by
  refine br_f (by decide) (br_t rfl ?_)
  by_cases hc : (¬ A < 0 ∧ ¬ 2 < A) ∧ (¬ B < 0 ∧ ¬ 3 < B) ∧ (¬ C < (-7) ∧ ¬ 7 < C)
  · have hc' := hc
    obtain ⟨⟨a0, a2⟩, ⟨b0, b3⟩, c0, c7⟩ := hc
    obtain ⟨a, ha, ea⟩ := nI_of2 (M := 2) (n := 2) (by decide) a0 (Int32.not_lt.mp a2)
    obtain ⟨b, hb, eb⟩ := nI_of2 (M := 3) (n := 3) (by decide) b0 (Int32.not_lt.mp b3)
    subst ea
    subst eb
    refine av_inT a0 a2 ?_
    refine br_f (by decide) ?_
    refine av_inT b0 b3 ?_
    refine br_f (by decide) ?_
    refine av_inT c0 c7 ?_
    refine br_f (by decide) ?_
    refine br_f (by decide) (br_f (by decide) (br_f (by decide) (br_f (by decide) ?_)))
    refine br_t rfl (br_f (by decide) (br_t rfl ?_))
    unfold wL_lawOf_213 wL_lawOf_218
    refine av_farI (fun x12 F => ?_)
    refine br_t rfl (br_t rfl (br_f (by decide) ?_))
    by_cases hn : C < 0
    · obtain ⟨k, hk, hk1, ek⟩ := av_neg hn c0
      subst ek
      refine br_f (av_v11 k hk hk1).2.1 (br_t rfl (br_f (by decide) (br_f (by decide) (br_f (by decide) ?_))))
      exact av_294g (f := false) (a := 0) (l' := 0) (h := 0) (d := 0) hp F (fun _ H => av_emit (by decide) (by decide) (fun _ h => av_fit1 (fun _ => h) (fun z => absurd hc' z)) H)
        (fun z => absurd z (by decide)) (fun _ => Or.inl ⟨a, b, k, by omega, hk, hk1, av_i8 a (by omega), av_i8 b (by omega), av_i8n k hk, Or.inl ⟨by decide, by omega⟩⟩) (fun z => absurd z (by decide)) (by omega) (Nat.le_refl 0) (by omega)
        (fun z => absurd z (by decide)) (fun _ => rfl) (fun z => absurd z (by decide)) (by omega) (av_mx_pt 0 (by omega) 0 (by omega)) (fun j hj e z => absurd z (by decide))
        (fun z => absurd z (by decide))
    · obtain ⟨k, hk, ek⟩ := nI_of2 (M := 7) (n := 7) (by decide) hn (Int32.not_lt.mp c7)
      subst ek
      refine br_t (nI_pos' (by omega)) (br_f (by decide) ?_)
      exact av_294g (f := true) (a := a) (l' := k) (h := k) (d := 1) hp F (fun _ H => av_emit (by decide) (by decide) (fun _ h => av_fit1 (fun _ => h) (fun z => absurd hc' z)) H)
        (fun _ => Or.inl (Or.inr (Or.inl ⟨by decide, by omega, by omega, rfl, av_i8 a (by omega), av_i8 k (by omega), b, by omega, av_i8 b (by omega)⟩))) (fun z => absurd z (by decide)) (fun z => absurd z (by decide)) (by omega) (Nat.le_refl k) (by omega)
        (fun _ => av_cnt_pt a (by omega) k (by omega)) (fun z => absurd z (by decide)) (fun _ => by omega) (by omega) (av_mx_pt a (by omega) k (by omega)) (fun j hj e _ => ((nI_eq (by omega) (by omega)).mp e).symm)
        (fun _ => ⟨fun _ => ⟨fun _ => ⟨fun z => absurd z (by decide), fun _ => rfl⟩, fun z => absurd rfl z⟩, fun z => absurd rfl z⟩)
  · have K : wL_lawOf_68 post 326 5200 1 A B C x4 0 0 0 := br_f (by decide) (br_f (by decide) (br_f (by decide) (br_f (by decide) (av_163b hp (by decide) (fun _ H => av_emitb (by decide) (by decide) (fun _ h => av_fit1 (fun z => absurd z hc) (fun _ => h)) H)))))
    exact av_inx (fun a0 a2 => br_f (by decide) (av_inx (fun b0 b3 => br_f (by decide) (av_inx (fun c0 c7 => absurd ⟨⟨a0, a2⟩, ⟨b0, b3⟩, c0, c7⟩ hc) (br_t rfl K))) (br_t rfl K))) (br_t rfl K)
theorem av_op2 (hp : post 1 ()) : wpL_lawOf post 326 5200 () 2 A B C x4 := by
  refine br_f (by decide) (br_f (by decide) (br_t rfl ?_))
  by_cases hc : ¬ A < 0 ∧ ¬ 2 < A
  · have hc' := hc
    obtain ⟨a0, a2⟩ := hc
    obtain ⟨a, ha, ea⟩ := nI_of2 (M := 2) (n := 2) (by decide) a0 (Int32.not_lt.mp a2)
    subst ea
    refine av_inT a0 a2 ?_
    refine br_f (by decide) ?_
    refine br_f (by decide) (br_f (by decide) (br_f (by decide) ?_))
    refine br_t rfl (br_t rfl (br_f (by decide) (br_t rfl ?_)))
    unfold wL_lawOf_213 wL_lawOf_218
    refine av_farI (fun x12 F => ?_)
    refine br_f (by decide) (br_f (by decide) ?_)
    exact av_294g (f := true) (a := a) (l' := 0) (h := 7) (d := 8) hp F (fun _ H => av_emit (by decide) (by decide) (fun _ h => av_fit2 (fun _ => h) (fun z => absurd hc' z)) H)
      (fun _ => Or.inl (Or.inr (Or.inr (Or.inl ⟨by decide, by omega, rfl, rfl, av_i8 a (by omega)⟩)))) (fun z => absurd z (by decide)) (fun z => absurd z (by decide)) (by omega) (by omega) (by omega)
      (fun _ => av_cnt_any a (by omega)) (fun z => absurd z (by decide)) (fun _ => by omega) (by omega) (av_mx_any a (by omega)) (fun j hj e _ => ((nI_eq (by omega) (by omega)).mp e).symm)
      (fun _ => ⟨fun z => absurd z (by decide), fun _ => rfl⟩)
  · have K : wL_lawOf_89 post 326 5200 2 A B C x4 0 0 0 0 := br_f (by decide) (br_f (by decide) (br_f (by decide) (av_163b hp (by decide) (fun _ H => av_emitb (by decide) (by decide) (fun _ h => av_fit2 (fun z => absurd z hc) (fun _ => h)) H))))
    exact av_inx (fun a0 a2 => absurd ⟨a0, a2⟩ hc) (br_t rfl K)
theorem av_op3 (hp : post 1 ()) : wpL_lawOf post 326 5200 () 3 A B C x4 := by
  refine br_f (by decide) (br_f (by decide) (br_f (by decide) (br_t rfl ?_)))
  by_cases hc : (¬ A < 0 ∧ ¬ 3 < A) ∧ (¬ B < 0 ∧ ¬ 3 < B) ∧ ¬ A = B ∧ (¬ C < (-7) ∧ ¬ 7 < C)
  · have hc' := hc
    obtain ⟨⟨a0, a3⟩, ⟨b0, b3⟩, hab, c0, c7⟩ := hc
    obtain ⟨z, hz, HZ⟩ := av_pick A
    obtain ⟨a, ha, ea⟩ := nI_of2 (M := 3) (n := 3) (by decide) a0 (Int32.not_lt.mp a3)
    obtain ⟨b, hb, eb⟩ := nI_of2 (M := 3) (n := 3) (by decide) b0 (Int32.not_lt.mp b3)
    subst ea
    subst eb
    have nab : a ≠ b := fun e => hab (by rw [e])
    refine av_inT a0 a3 ?_
    refine br_f (by decide) ?_
    refine av_inT b0 b3 ?_
    refine br_f (by decide) (br_f hab ?_)
    refine av_inT c0 c7 ?_
    refine br_f (by decide) ?_
    refine br_f (by decide) (br_f (by decide) ?_)
    refine br_t rfl (br_t rfl (br_t rfl (br_f (by decide) (br_t rfl ?_))))
    unfold wL_lawOf_213 wL_lawOf_218
    refine av_farI (fun x12 F => ?_)
    refine br_t rfl (br_t rfl (br_t rfl (br_f (by decide) ?_)))
    by_cases hn : C < 0
    · obtain ⟨k, hk, hk1, ek⟩ := av_neg hn c0
      subst ek
      refine br_f (av_v11 k hk hk1).2.1 (br_f (by decide) (br_f (by decide) (br_f (by decide) ?_)))
      exact av_294g (f := false) (a := 0) (l' := 0) (h := 0) (d := 0) hp F (fun _ H => av_emit (by decide) (by decide) (fun _ h => av_fit3 (fun _ => h) (fun z => absurd hc' z)) H)
        (fun z => absurd z (by decide)) (fun _ => Or.inl ⟨a, b, k, by omega, hk, hk1, av_i8 a (by omega), av_i8 b (by omega), av_i8n k hk, Or.inr ⟨by decide, by omega, nab⟩⟩) (fun z => absurd z (by decide)) (by omega) (Nat.le_refl 0) (by omega)
        (fun z => absurd z (by decide)) (fun _ => rfl) (fun z => absurd z (by decide)) (by omega) (av_mx_pt 0 (by omega) 0 (by omega)) (fun j hj e z => absurd z (by decide))
        (fun z => absurd z (by decide))
    · obtain ⟨k, hk, ek⟩ := nI_of2 (M := 7) (n := 7) (by decide) hn (Int32.not_lt.mp c7)
      subst ek
      refine br_t (nI_pos' (by omega)) (br_f (by decide) ?_)
      exact av_294g (f := true) (a := z) (l' := 0) (h := 0) (d := 1) hp F (fun _ H => av_emit (by decide) (by decide) (fun _ h => av_fit3 (fun _ => h) (fun z => absurd hc' z)) H)
        (fun _ => Or.inl (Or.inr (Or.inr (Or.inr ⟨by decide, rfl, rfl, a, b, k, by omega, by omega, nab, by omega, av_i8 a (by omega), av_i8 b (by omega), av_i8 k (by omega)⟩)))) (fun z => absurd z (by decide)) (fun z => absurd z (by decide)) hz (Nat.le_refl 0) (by omega)
        (fun _ => av_cnt_pt z hz 0 (by omega)) (fun z => absurd z (by decide)) (fun _ => by omega) (by omega) (av_mx_pt z hz 0 (by omega)) (fun j hj e _ => HZ j hj e)
        (fun _ => ⟨fun _ => ⟨fun _ => ⟨fun _ => rfl, fun z => absurd rfl z⟩, fun z => absurd rfl z⟩, fun z => absurd rfl z⟩)
  · have K : wL_lawOf_135 post 326 5200 3 A B C x4 0 0 0 0 0 := br_f (by decide) (br_f (by decide) (av_163b hp (by decide) (fun _ H => av_emitb (by decide) (by decide) (fun _ h => av_fit3 (fun z => absurd z hc) (fun _ => h)) H)))
    exact av_inx (fun a0 a3 => br_f (by decide) (av_inx (fun b0 b3 => br_f (by decide) (br_c (fun _ => K) (fun hab => av_inx (fun c0 c7 => absurd ⟨⟨a0, a3⟩, ⟨b0, b3⟩, hab, c0, c7⟩ hc) (br_t rfl K)))) (br_t rfl K))) (br_t rfl K)
theorem av_op4 (hp : post 1 ()) : wpL_lawOf post 326 5200 () 4 A B C x4 := by
  refine br_f (by decide) (br_f (by decide) (br_f (by decide) (br_f (by decide) (br_t rfl ?_))))
  unfold wL_lawOf_148
  by_cases hc : ¬ C < 0 ∧ ¬ 20 < C
  · have hc' := hc
    obtain ⟨c0, c2⟩ := hc
    obtain ⟨z, hz, HZ⟩ := av_pick A
    obtain ⟨k, hk, ek⟩ := nI_of2 (M := 20) (n := 20) (by decide) c0 (Int32.not_lt.mp c2)
    subst ek
    refine av_inT c0 c2 ?_
    refine br_f (by decide) ?_
    refine br_t rfl (br_t rfl (br_t rfl (br_t rfl (br_f (by decide) ?_))))
    refine br_f (by decide) (pk_lt 1 k (fun h2 => ?_) (fun h1 => ?_))
    · unfold wL_lawOf_218
      refine av_farI (fun x12 F => ?_)
      refine br_t rfl (br_t rfl (br_t rfl (br_t rfl (br_f (by decide) (br_t rfl ?_)))))
      have G : ∀ x13, wL_lawOf_294 post 326 5200 4 A B (nI k) x4 0 0 0 1 0 x12 x13 1 0 0 := fun x13 => av_294i hp F (fun _ H => av_emit (by decide) (by decide) (fun _ h => av_fit4 (fun _ => h) (fun z => absurd hc' z)) (fun s1 s2 s3 s4 s5 e1 _ _ e4 _ => H s1 s2 s3 s4 s5 e1 (by rw [e4]; exact av_i21 k (by omega)))) (Or.inl rfl) (nI_ge h2 (by omega))
      exact br_c (fun _ => br_f (by decide) (G _)) (fun _ => br_f (by decide) (G _))
    · unfold wL_lawOf_213 wL_lawOf_218
      refine av_farI (fun x12 F => ?_)
      refine br_t rfl (br_t rfl (br_t rfl (br_t rfl (br_f (by decide) (br_t rfl ?_)))))
      refine pk_eq k 1 (fun e => br_f (by decide) ?_) (fun e => br_f (by decide) ?_)
      · subst e
        exact av_294g (f := true) (a := z) (l' := 0) (h := 0) (d := 1) hp F (fun _ H => av_emit (by decide) (by decide) (fun _ h => av_fit4 (fun _ => h) (fun z => absurd hc' z)) H)
          (fun _ => Or.inr (Or.inl ⟨by decide, av_i21 1 (by omega), rfl, rfl⟩)) (fun z => absurd z (by decide)) (fun _ => by decide) hz (Nat.le_refl 0) (by omega)
          (fun _ => av_cnt_pt z hz 0 (by omega)) (fun z => absurd z (by decide)) (fun _ => by omega) (by omega) (av_mx_pt z hz 0 (by omega)) (fun j hj e _ => HZ j hj e)
          (fun _ => ⟨fun _ => ⟨fun _ => ⟨fun _ => rfl, fun z => absurd rfl z⟩, fun z => absurd rfl z⟩, fun z => absurd rfl z⟩)
      · have e0 : k = 0 := by omega
        subst e0
        exact av_294g (f := false) (a := 0) (l' := 0) (h := 0) (d := 0) hp F (fun _ H => av_emit (by decide) (by decide) (fun _ h => av_fit4 (fun _ => h) (fun z => absurd hc' z)) H)
          (fun z => absurd z (by decide)) (fun _ => Or.inr (Or.inl ⟨by decide, av_i21 0 (by omega)⟩)) (fun _ => by decide) (by omega) (Nat.le_refl 0) (by omega)
          (fun z => absurd z (by decide)) (fun _ => rfl) (fun z => absurd z (by decide)) (by omega) (av_mx_pt 0 (by omega) 0 (by omega)) (fun j hj e z => absurd z (by decide))
          (fun z => absurd z (by decide))
  · have K : wL_lawOf_162 post 326 5200 4 A B C x4 0 0 0 0 0 0 := av_163b hp (by decide) (fun _ H => av_emitb (by decide) (by decide) (fun _ h => av_fit4 (fun z => absurd z hc) (fun _ => h)) H)
    exact av_inx (fun c0 c2 => absurd ⟨c0, c2⟩ hc) (br_t rfl K)
theorem av_op5 (hp : post 1 ()) : wpL_lawOf post 326 5200 () 5 A B C x4 := by
  refine br_f (by decide) (br_f (by decide) (br_f (by decide) (br_f (by decide) (br_f (by decide) (br_t rfl ?_)))))
  unfold wL_lawOf_148
  by_cases hc : ¬ C < 0 ∧ ¬ 20 < C
  · have hc' := hc
    obtain ⟨c0, c2⟩ := hc
    obtain ⟨z, hz, HZ⟩ := av_pick A
    obtain ⟨k, hk, ek⟩ := nI_of2 (M := 20) (n := 20) (by decide) c0 (Int32.not_lt.mp c2)
    subst ek
    refine av_inT c0 c2 ?_
    refine br_f (by decide) ?_
    refine br_t rfl (br_t rfl (br_t rfl (br_t rfl (br_f (by decide) ?_))))
    refine br_f (by decide) (pk_lt 1 k (fun h2 => ?_) (fun h1 => ?_))
    · unfold wL_lawOf_218
      refine av_farI (fun x12 F => ?_)
      refine br_t rfl (br_t rfl (br_t rfl (br_t rfl (br_t rfl (br_f (by decide) ?_)))))
      exact av_294i hp F (fun _ H => av_emit (by decide) (by decide) (fun _ h => av_fit5 (fun _ => h) (fun z => absurd hc' z)) (fun s1 s2 s3 s4 s5 e1 _ _ e4 _ => H s1 s2 s3 s4 s5 e1 (by rw [e4]; exact av_i21 k (by omega)))) (Or.inr rfl) (nI_ge h2 (by omega))
    · unfold wL_lawOf_213 wL_lawOf_218
      refine av_farI (fun x12 F => ?_)
      refine br_t rfl (br_t rfl (br_t rfl (br_t rfl (br_t rfl (br_f (by decide) ?_)))))
      have hk1 : (nI k).toInt8.toInt32 = nI 0 ∨ (nI k).toInt8.toInt32 = nI 1 := by
        rw [av_i21 k (by omega)]
        rcases (show k = 0 ∨ k = 1 by omega) with e | e
        · rw [e]
          exact Or.inl rfl
        · rw [e]
          exact Or.inr rfl
      exact av_294g (f := true) (a := z) (l' := 0) (h := 0) (d := 1) hp F (fun _ H => av_emit (by decide) (by decide) (fun _ h => av_fit5 (fun _ => h) (fun z => absurd hc' z)) H)
        (fun _ => Or.inr (Or.inr ⟨by decide, hk1, rfl, rfl⟩)) (fun z => absurd z (by decide)) (fun _ => by rw [av_i21 k (by omega)]; exact nI_le h1 (by omega)) hz (Nat.le_refl 0) (by omega)
        (fun _ => av_cnt_pt z hz 0 (by omega)) (fun z => absurd z (by decide)) (fun _ => by omega) (by omega) (av_mx_pt z hz 0 (by omega)) (fun j hj e _ => HZ j hj e)
        (fun _ => ⟨fun _ => ⟨fun _ => ⟨fun _ => rfl, fun z => absurd rfl z⟩, fun z => absurd rfl z⟩, fun z => absurd rfl z⟩)
  · have K : wL_lawOf_162 post 326 5200 5 A B C x4 0 0 0 0 0 0 := av_163b hp (by decide) (fun _ H => av_emitb (by decide) (by decide) (fun _ h => av_fit5 (fun z => absurd z hc) (fun _ => h)) H)
    exact av_inx (fun c0 c2 => absurd ⟨c0, c2⟩ hc) (br_t rfl K)
theorem av_op6 (hp : post 1 ()) : wpL_lawOf post 326 5200 () 6 A B C x4 := by
  refine br_f (by decide) (br_f (by decide) (br_f (by decide) (br_f (by decide) (br_f (by decide) (br_f (by decide) ?_)))))
  refine br_t rfl (br_t rfl (br_t rfl (br_t rfl (br_t rfl (br_t rfl (br_t rfl ?_))))))
  unfold wL_lawOf_213 wL_lawOf_218
  refine av_farI (fun x12 F => ?_)
  refine br_t rfl (br_t rfl (br_t rfl (br_t rfl (br_f (by decide) (br_f (by decide) (br_f (by decide) ?_))))))
  exact av_294g (f := false) (a := 0) (l' := 0) (h := 0) (d := 0) hp F (fun _ H => av_emit (by decide) (by decide) (fun _ h => av_fit6 h) H)
    (fun z => absurd z (by decide)) (fun _ => Or.inr (Or.inr (by decide))) (fun z => absurd z (by decide)) (by omega) (Nat.le_refl 0) (by omega)
    (fun z => absurd z (by decide)) (fun _ => rfl) (fun z => absurd z (by decide)) (by omega) (av_mx_pt 0 (by omega) 0 (by omega)) (fun j hj e z => absurd z (by decide))
    (fun z => absurd z (by decide))
theorem av_opx (hp : post 1 ()) (ho : o < 0 ∨ 6 < o) : wpL_lawOf post 326 5200 () o A B C x4 := by
  have n : ∀ k : Int32, ¬ (k < 0 ∨ 6 < k) → ¬ o = k := fun k hk e => hk (by rw [← e]; exact ho)
  exact br_f (n 0 (by decide)) (br_f (n 1 (by decide)) (br_f (n 2 (by decide)) (br_f (n 3 (by decide)) (br_f (n 4 (by decide)) (br_f (n 5 (by decide)) (av_163b hp (n 6 (by decide)) (fun _ H => av_emitx ho H)))))))
theorem av_lawOf (hp : post 1 ()) : wpL_lawOf post 326 5200 () o A B C x4 := by
  by_cases ho : o < 0 ∨ 6 < o
  · exact av_opx hp ho
  · obtain ⟨k, hk, e⟩ := nI_of2 (x := o) (M := 6) (n := 6) (by decide) (fun g => ho (Or.inl g)) (Int32.not_lt.mp (fun g => ho (Or.inr g)))
    subst e
    rcases (show k = 0 ∨ k = 1 ∨ k = 2 ∨ k = 3 ∨ k = 4 ∨ k = 5 ∨ k = 6 by omega) with e | e | e | e | e | e | e
    · subst e
      exact av_op0 hp
    · subst e
      exact av_op1 hp
    · subst e
      exact av_op2 hp
    · subst e
      exact av_op3 hp
    · subst e
      exact av_op4 hp
    · subst e
      exact av_op5 hp
    · subst e
      exact av_op6 hp
end
section
theorem av_cell {post : Int32 → Prop} {L : Nat} {xs : Nat → Int32} (k : Nat) (hk : k < 5) (hL : L ≤ 5) (H : ∀ v, post v) : wpL_cellAt post L xs () (nI k) :=
  pk_le L k (fun _ => H _) (fun z => ⟨pk_in k L z, H _⟩)
theorem i_vc (xs : Nat → Int32) (L : Nat) (hL : L ≤ 5) : wpL_law (fun r => r = 1) L xs := by
  unfold wpL_law
  refine av_cell 0 (by omega) hL (fun v0 => ?_)
  refine av_cell 1 (by omega) hL (fun v1 => ?_)
  refine av_cell 2 (by omega) hL (fun v2 => ?_)
  refine av_cell 3 (by omega) hL (fun v3 => ?_)
  refine av_cell 4 (by omega) hL (fun v4 => ?_)
  exact ⟨326, 5200, by omega, by omega, av_lawOf rfl⟩
end
