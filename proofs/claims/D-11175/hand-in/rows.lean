section
/-! ===== small steps ===== -/
theorem qn_st {f : Nat → Int32} {P : (Nat → Int32) → Prop} {i v w : Int32} (n : Nat) (h : P (upd f n w)) (hi : i = nI n := by rfl) (hn : n < 2 ^ 31 := by omega) (hv : v = w := by rfl) : ∀ g, g = upd f i.toNatClampNeg v → P g := by
  intro g e
  subst hi hv
  rw [e, nI_clamp hn]
  exact h
theorem qn_at {f : Nat → Int32} {i v : Int32} (n : Nat) (h : f n = v) (hi : i = nI n := by rfl) (hn : n < 2 ^ 31 := by omega) : f i.toNatClampNeg = v := by
  subst hi
  rw [nI_clamp hn, h]
theorem qn_rd {f : Nat → Int32} {P : Int32 → Prop} {i v : Int32} (n : Nat) (hf : f n = v) (h : P v) (hi : i = nI n := by rfl) (hn : n < 2 ^ 31 := by omega) : ∀ x, x = f i.toNatClampNeg → P x := by
  intro x e
  rw [e, qn_at n hf hi hn]
  exact h
theorem qn_b : ∀ n, n < 128 → (nI n).toInt8.toInt32 = nI n := by decide +kernel
theorem qn_bm : (-1 : Int32).toInt8.toInt32 = -1 := by decide +kernel
theorem qn_nar {n : Nat} (h : n < 128) : vp_nar .byte (nI n) = nI n := by rw [vp_nar_byte]; exact qn_b n h
theorem qn_narm : vp_nar .byte (-1) = -1 := by rw [vp_nar_byte]; exact qn_bm
theorem qn_nm {n : Nat} (h : n < 2 ^ 31) : ¬ nI n = -1 := by
  intro e
  have h1 := nI_pos h
  rw [e] at h1
  exact h1 (by decide)
theorem qn_div32 {X : Nat} (hX : X < 2 ^ 31) : nI X / 32 = nI (X / 32) := pk_div (d := 32) hX (by omega) (by omega)
theorem qn_rem16 {X : Nat} (hX : X < 2 ^ 31) : nI X - nI X / 16 * 16 = nI (X % 16) := pk_rem (d := 16) hX (by omega) (by omega)
theorem qn_rem32 {X : Nat} (hX : X < 2 ^ 31) : nI X - nI X / 32 * 32 = nI (X % 32) := pk_rem (d := 32) hX (by omega) (by omega)
theorem qn_day {X : Nat} (hX : X < 2 ^ 31) : nI X / 32 - nI X / 32 / 16 * 16 = nI (X / 32 % 16) := by
  rw [qn_div32 hX]
  exact qn_rem16 (by omega)
theorem qn_cust {post : Int32 → Prop} {X : Nat} (hX : X < 8192) (h : post (nI (X % 16))) : wpX_customerOf post () (nI X) :=
  ⟨by decide, ek_v (P := post) (qn_rem16 (by omega)) h⟩
/-! ===== bits ===== -/
theorem qn_xor (a b : Nat) : nI a ^^^ nI b = nI (a ^^^ b) := by
  apply Int32.toBitVec_inj.1
  show BitVec.ofNat 32 a ^^^ BitVec.ofNat 32 b = BitVec.ofNat 32 (a ^^^ b)
  apply BitVec.eq_of_getLsbD_eq
  intro i hi
  simp [hi]
/-- how many bits a number has -/
def qn_bl (n : Nat) : Nat := if n = 0 then 0 else n.log2 + 1
theorem qn_bl_le {n k : Nat} : qn_bl n ≤ k ↔ n < 2 ^ k := by
  unfold qn_bl
  split
  · rename_i h
    subst h
    exact ⟨fun _ => Nat.two_pow_pos k, fun _ => Nat.zero_le k⟩
  · rename_i h
    exact Nat.log2_lt h
theorem qn_bl_0 : qn_bl 0 = 0 := rfl
theorem qn_bl_half {n : Nat} (h : n ≠ 0) : qn_bl n = qn_bl (n / 2) + 1 := by
  have h1 : qn_bl n ≤ qn_bl (n / 2) + 1 := by
    rw [qn_bl_le, Nat.pow_succ]
    have := (qn_bl_le (n := n / 2) (k := qn_bl (n / 2))).mp (Nat.le_refl _)
    omega
  have h2 : qn_bl (n / 2) + 1 ≤ qn_bl n := by
    cases e : qn_bl n with
    | zero =>
      have h3 := (qn_bl_le (n := n) (k := 0)).mp (by omega)
      rw [Nat.pow_zero] at h3
      omega
    | succ m =>
      have h3 := (qn_bl_le (n := n) (k := m + 1)).mp (by omega)
      rw [Nat.pow_succ] at h3
      have := (qn_bl_le (n := n / 2) (k := m)).mpr (by omega)
      omega
  omega
theorem qn_xlt {x l k : Nat} : x ^^^ l < 2 ^ k ↔ x / 2 ^ k = l / 2 ^ k := by
  have h : (x ^^^ l) >>> k = x >>> k ^^^ l >>> k := Nat.shiftRight_xor_distrib
  rw [Nat.shiftRight_eq_div_pow, Nat.shiftRight_eq_div_pow, Nat.shiftRight_eq_div_pow] at h
  rw [← Nat.div_eq_zero_iff_lt (Nat.two_pow_pos k), h]
  generalize x / 2 ^ k = p
  generalize l / 2 ^ k = q
  constructor
  · intro h2
    have h3 : (p ^^^ q) ^^^ q = p := by rw [Nat.xor_assoc, Nat.xor_self, Nat.xor_zero]
    rw [h2, Nat.zero_xor] at h3
    exact h3.symm
  · intro h2
    rw [h2, Nat.xor_self]
/-- the bucket of an event X when l was taken last -/
def qn_bk (l X : Nat) : Nat := qn_bl (X ^^^ l)
theorem qn_bk_le {l X k : Nat} : qn_bk l X ≤ k ↔ X / 2 ^ k = l / 2 ^ k := by
  unfold qn_bk
  rw [qn_bl_le, qn_xlt]
theorem qn_bk_13 {l X : Nat} (hl : l < 8192) (hX : X < 8192) : qn_bk l X ≤ 13 := by
  rw [qn_bk_le]
  rw [Nat.div_eq_of_lt (show X < 2 ^ 13 from hX), Nat.div_eq_of_lt (show l < 2 ^ 13 from hl)]
theorem qn_bk_mono {l X Y : Nat} (h1 : l ≤ X) (h2 : X ≤ Y) : qn_bk l X ≤ qn_bk l Y := by
  have h3 := (qn_bk_le (l := l) (X := Y) (k := qn_bk l Y)).mp (Nat.le_refl _)
  rw [qn_bk_le]
  have h4 : l / 2 ^ qn_bk l Y ≤ X / 2 ^ qn_bk l Y := Nat.div_le_div_right h1
  have h5 : X / 2 ^ qn_bk l Y ≤ Y / 2 ^ qn_bk l Y := Nat.div_le_div_right h2
  omega
theorem qn_bk_up {l X Y : Nat} (h : qn_bk l X < qn_bk l Y) : qn_bk X Y = qn_bk l Y := by
  have key : ∀ k, qn_bk l X ≤ k → (qn_bk X Y ≤ k ↔ qn_bk l Y ≤ k) := by
    intro k hk
    rw [qn_bk_le, qn_bk_le, qn_bk_le.mp hk]
  have h1 := (key (qn_bk l Y) (by omega)).mpr (Nat.le_refl _)
  have h2 : qn_bk l Y ≤ qn_bk X Y := by
    rcases Nat.lt_or_ge (qn_bk X Y) (qn_bk l X) with z | z
    · have := (key (qn_bk l X) (Nat.le_refl _)).mp (by omega)
      omega
    · exact (key (qn_bk X Y) z).mp (Nat.le_refl _)
  omega
end
section
/-! ===== engine 0: a heap of at most two ===== -/
def qn_H (a20 : Nat → Int32) : List Nat → Prop
  | [] => True
  | [X] => a20 0 = nI X
  | X :: Y :: _ => a20 0 = nI X ∧ a20 1 = nI Y
theorem qn_hAdd0 {post : St2 → Prop} {fc fg fe fp ft fr fl : Int32} {a1 a2 a3 a4 a5 a6 a7 a8 a9 a10 a11 a12 a13 a14 a15 a16 a17 a18 a19 a20 a21 a22 a23 a24 a25 a26 a27 : Nat → Int32} {X : Nat} (hp : fp = nI 0) (H : ∀ a20' : Nat → Int32, a20' 0 = nI X → post (fc, fg, fe, fp, ft, fr, fl, a1, a2, a3, a4, a5, a6, a7, a8, a9, a10, a11, a12, a13, a14, a15, a16, a17, a18, a19, a20', a21, a22, a23, a24, a25, a26, a27)) : wpX_heapAdd post (fc, fg, fe, fp, ft, fr, fl, a1, a2, a3, a4, a5, a6, a7, a8, a9, a10, a11, a12, a13, a14, a15, a16, a17, a18, a19, a20, a21, a22, a23, a24, a25, a26, a27) (nI X) := by
  subst hp
  exact ⟨1, pk_le 0 0 (fun _ => ⟨pk_in 0 16 (by omega), qn_st 0 (H _ pk_us)⟩) (fun z => absurd z (by omega))⟩
theorem qn_hAdd1 {post : St2 → Prop} {fc fg fe fp ft fr fl : Int32} {a1 a2 a3 a4 a5 a6 a7 a8 a9 a10 a11 a12 a13 a14 a15 a16 a17 a18 a19 a20 a21 a22 a23 a24 a25 a26 a27 : Nat → Int32} {X Y : Nat} (hp : fp = nI 1) (h0 : a20 0 = nI Y) (hX : X < 8192) (hY : Y < 8192)
    (H : ∀ a20' : Nat → Int32, (X < Y → a20' 0 = nI X ∧ a20' 1 = nI Y) → (Y ≤ X → a20' 0 = nI Y ∧ a20' 1 = nI X) → post (fc, fg, fe, fp, ft, fr, fl, a1, a2, a3, a4, a5, a6, a7, a8, a9, a10, a11, a12, a13, a14, a15, a16, a17, a18, a19, a20', a21, a22, a23, a24, a25, a26, a27)) : wpX_heapAdd post (fc, fg, fe, fp, ft, fr, fl, a1, a2, a3, a4, a5, a6, a7, a8, a9, a10, a11, a12, a13, a14, a15, a16, a17, a18, a19, a20, a21, a22, a23, a24, a25, a26, a27) (nI X) := by
  subst hp
  refine ⟨2, pk_le 1 0 (fun z => absurd z (by omega)) (fun _ => ⟨by decide, pk_in 0 16 (by omega) (by decide), pk_le Y X (fun z => ?_) (fun z => ?_) (qn_at 0 h0 (by decide))⟩)⟩
  · exact ⟨pk_in 1 16 (by omega), qn_st 1 (H _ (fun q => absurd q (by omega)) (fun _ => ⟨by rw [pk_un (by decide)]; exact h0, pk_us⟩))⟩
  · refine ⟨by decide, pk_in 0 16 (by omega) (by decide), pk_in 1 16 (by omega), qn_st 1 ⟨by decide, nm_r (e' := nI 0) (by decide) ?_⟩ (hv := qn_at 0 h0 (by decide))⟩
    exact pk_le 0 0 (fun _ => ⟨pk_in 0 16 (by omega), qn_st 0 (H _ (fun _ => ⟨pk_us, by rw [pk_un (by decide)]; exact pk_us⟩) (fun q => absurd q (by omega)))⟩) (fun z => absurd z (by omega))
theorem qn_hTake {post : Int32 → St2 → Prop} {fc fg fe fp ft fr fl : Int32} {a1 a2 a3 a4 a5 a6 a7 a8 a9 a10 a11 a12 a13 a14 a15 a16 a17 a18 a19 a20 a21 a22 a23 a24 a25 a26 a27 : Nat → Int32} {X k Z : Nat} (hk : k < 2) (hp : fp = nI (k + 1)) (h0 : a20 0 = nI X) (h1 : a20 k = nI Z)
    (H : ∀ a20' : Nat → Int32, a20' 0 = nI Z → post (nI X) (fc, fg, fe, fp, ft, fr, fl, a1, a2, a3, a4, a5, a6, a7, a8, a9, a10, a11, a12, a13, a14, a15, a16, a17, a18, a19, a20', a21, a22, a23, a24, a25, a26, a27)) : wpX_heapTake post (fc, fg, fe, fp, ft, fr, fl, a1, a2, a3, a4, a5, a6, a7, a8, a9, a10, a11, a12, a13, a14, a15, a16, a17, a18, a19, a20, a21, a22, a23, a24, a25, a26, a27) := by
  subst hp
  refine nm_r h0 ⟨pk_in k 16 (by omega) (nI_pred k), qn_rd k h1 ?_ (nI_pred k)⟩
  refine ⟨1, br_f (by decide) (br_t ?_ ⟨pk_in 0 16 (by omega), qn_st 0 (H _ pk_us)⟩)⟩
  rw [nI_pred, show (2 * 0 + 1 : Int32) = nI 1 from by decide]
  exact nI_le (by omega) (by omega)
end
section
/-! ===== engine 1: a calendar with at most two events ===== -/
def qn_C (l : Nat) (ft : Int32) (a21 a22 a23 : Nat → Int32) : List Nat → Prop
  | [] => ft = nI (l / 32) ∧ ∀ d, d < 16 → a21 d = -1
  | [X] => ft = nI (l / 32) ∧ a23 (X % 16) = nI X ∧ a22 (X % 16) = -1 ∧ a21 (X / 32 % 16) = nI (X % 16) ∧ ∀ d, d < 16 → d ≠ X / 32 % 16 → a21 d = -1
  | X :: Y :: _ => ft = nI (l / 32) ∧ a23 (X % 16) = nI X ∧ a23 (Y % 16) = nI Y ∧ a22 (Y % 16) = -1 ∧ a21 (X / 32 % 16) = nI (X % 16) ∧
      (X / 32 % 16 = Y / 32 % 16 → a22 (X % 16) = nI (Y % 16)) ∧ (X / 32 % 16 ≠ Y / 32 % 16 → a22 (X % 16) = -1 ∧ a21 (Y / 32 % 16) = nI (Y % 16)) ∧
      ∀ d, d < 16 → d ≠ X / 32 % 16 → d ≠ Y / 32 % 16 → a21 d = -1
/-- what a day holds: nothing, or a customer whose event isn't before X -/
def qn_CD (a21 a23 : Nat → Int32) (X c d : Nat) : Prop :=
  a21 d = -1 ∨ ∃ c' E : Nat, c' < 12 ∧ E < 8192 ∧ a21 d = nI c' ∧ a23 c' = nI E ∧ X ≤ E ∧ E / 32 % 16 = d ∧ (E = X → c' = c)
def qn_CB (a23 : Nat → Int32) (X c : Nat) (b : Int32) : Prop :=
  b = -1 ∨ ∃ c' E : Nat, c' < 12 ∧ E < 8192 ∧ b = nI c' ∧ a23 c' = nI E ∧ X ≤ E ∧ (E = X → c' = c)
theorem qn_inj {a b : Nat} (h : nI a = nI b) (ha : a < 2 ^ 31) (hb : b < 2 ^ 31) : a = b := (nI_eq ha hb).mp h
theorem qn_cN57 {post : Int32 → Prop} {fc fg fe fp ft fr fl : Int32} {a1 a2 a3 a4 a5 a6 a7 a8 a9 a10 a11 a12 a13 a14 a15 a16 a17 a18 a19 a20 a21 a22 a23 a24 a25 a26 a27 : Nat → Int32} {X c : Nat} (hX : X < 8192) (hc : c < 12) (h1 : a21 (X / 32 % 16) = nI c) (h2 : a23 c = nI X)
    (h3 : ∀ d, d < 16 → qn_CD a21 a23 X c d) (H : post (nI c)) : ∃ n, wX_calendarNext_57 post fc fg fe fp ft fr fl a1 a2 a3 a4 a5 a6 a7 a8 a9 a10 a11 a12 a13 a14 a15 a16 a17 a18 a19 a20 a21 a22 a23 a24 a25 a26 a27 n (-1) 0 := by
  refine pk_loop (fun n i s => wX_calendarNext_57 post fc fg fe fp ft fr fl a1 a2 a3 a4 a5 a6 a7 a8 a9 a10 a11 a12 a13 a14 a15 a16 a17 a18 a19 a20 a21 a22 a23 a24 a25 a26 a27 n s (nI i)) (fun i s => (X / 32 % 16 < i → s = nI c) ∧ qn_CB a23 X c s) 16 0 (-1) (by omega) ⟨fun z => absurd z (by omega), Or.inl rfl⟩ ?_ ?_
  · intro n s hI
    refine pk_le 16 16 (fun _ => ?_) (fun z => absurd z (by omega))
    rw [hI.1 (by omega)]
    exact H
  · intro n i s hi hI hw
    refine pk_le 16 i (fun z => absurd z (by omega)) (fun _ => ⟨pk_in i 16 hi, ?_⟩)
    rcases h3 i hi with hm | ⟨c', E, g1, g2, g3, g4, g5, g6, g7⟩
    · refine qn_rd i hm (br_t (by decide) (nm_r (nI_1 i) (hw s ⟨fun z => ?_, hI.2⟩)))
      rcases Nat.lt_or_ge (X / 32 % 16) i with y | y
      · exact hI.1 y
      · have : X / 32 % 16 = i := by omega
        rw [this, hm] at h1
        exact absurd h1.symm (qn_nm (by omega))
    · have hcc : X / 32 % 16 = i → c' = c ∧ E = X := by
        intro y
        rw [y, g3] at h1
        have e1 : c' = c := qn_inj h1 (by omega) (by omega)
        rw [e1, h2] at g4
        exact ⟨e1, (qn_inj g4 (by omega) (by omega)).symm⟩
      refine qn_rd i g3 (br_f (nI_pos (by omega)) ?_)
      rcases hI.2 with hb | ⟨c2, E2, k1, k2, k3, k4, k5, k6⟩
      · refine br_t (by rw [hb]; decide) (nm_r (nI_1 i) (hw _ ⟨fun z => ?_, Or.inr ⟨c', E, g1, g2, rfl, g4, g5, g7⟩⟩))
        rcases Nat.lt_or_ge (X / 32 % 16) i with y | y
        · rw [hI.1 y] at hb
          exact absurd hb (qn_nm (by omega))
        · rw [(hcc (by omega)).1]
      · refine br_f (by rw [k3]; exact nI_pos (by omega)) ⟨pk_in c' 12 g1, pk_in c2 12 k1 k3, pk_le E2 E (fun y => ?_) (fun y => ?_) (qn_at c2 k4 k3) (qn_at c' g4)⟩
        · refine nm_r (nI_1 i) (hw _ ⟨fun z => ?_, Or.inr ⟨c2, E2, k1, k2, k3, k4, k5, k6⟩⟩)
          rcases Nat.lt_or_ge (X / 32 % 16) i with y2 | y2
          · exact hI.1 y2
          · have := (hcc (by omega)).2
            rw [k3, k6 (by omega)]
        · refine nm_r (nI_1 i) (hw _ ⟨fun z => ?_, Or.inr ⟨c', E, g1, g2, rfl, g4, g5, g7⟩⟩)
          rcases Nat.lt_or_ge (X / 32 % 16) i with y2 | y2
          · have e1 := hI.1 y2
            rw [k3] at e1
            have e2 : c2 = c := qn_inj e1 (by omega) (by omega)
            rw [e2, h2] at k4
            have e3 := qn_inj k4 (by omega) (by omega)
            omega
          · rw [(hcc (by omega)).1]
theorem qn_cNext {post : Int32 → Prop} {fc fg fe fp ft fr fl : Int32} {a1 a2 a3 a4 a5 a6 a7 a8 a9 a10 a11 a12 a13 a14 a15 a16 a17 a18 a19 a20 a21 a22 a23 a24 a25 a26 a27 : Nat → Int32} {T X c : Nat} (hft : ft = nI T) (hT : T ≤ X / 32) (hX : X < 8192) (hc : c < 12) (h1 : a21 (X / 32 % 16) = nI c) (h2 : a23 c = nI X)
    (h3 : ∀ d, d < 16 → qn_CD a21 a23 X c d) (H : post (nI c)) : wpX_calendarNext post (fc, fg, fe, fp, ft, fr, fl, a1, a2, a3, a4, a5, a6, a7, a8, a9, a10, a11, a12, a13, a14, a15, a16, a17, a18, a19, a20, a21, a22, a23, a24, a25, a26, a27) := by
  subst hft
  refine pk_loop (σ := Unit) (fun n i _ => wX_calendarNext_2 post fc fg fe fp (nI T) fr fl a1 a2 a3 a4 a5 a6 a7 a8 a9 a10 a11 a12 a13 a14 a15 a16 a17 a18 a19 a20 a21 a22 a23 a24 a25 a26 a27 n (nI i)) (fun i _ => T + i ≤ X / 32) 16 0 () (by omega) (by omega) ?_ ?_
  · intro n _ hI
    exact pk_le 16 16 (fun _ => qn_cN57 hX hc h1 h2 h3 H) (fun z => absurd z (by omega))
  · intro n i _ hi hI hw
    have hI : T + i ≤ X / 32 := hI
    have he : (nI T + nI i) - (nI T + nI i) / 16 * 16 = nI ((T + i) % 16) := by
      rw [nI_add]
      exact qn_rem16 (by omega)
    refine pk_le 16 i (fun z => absurd z (by omega)) (fun _ => ⟨by decide, pk_in ((T + i) % 16) 16 (by omega) he, ?_⟩)
    rcases h3 ((T + i) % 16) (by omega) with hm | ⟨c', E, g1, g2, g3, g4, g5, g6, g7⟩
    · refine qn_rd ((T + i) % 16) hm (br_t (by decide) (nm_r (nI_1 i) (hw () (show T + (i + 1) ≤ X / 32 from ?_)))) he
      rcases Nat.lt_or_ge (T + i) (X / 32) with y | y
      · omega
      · have : T + i = X / 32 := by omega
        rw [this, h1] at hm
        exact absurd hm (qn_nm (by omega))
    · refine qn_rd ((T + i) % 16) g3 (br_f (nI_pos (by omega)) ⟨pk_in c' 12 g1, by decide, pk_eq (E / 32) (T + i) (fun y => ?_) (fun y => nm_r (nI_1 i) (hw () (show T + (i + 1) ≤ X / 32 from ?_))) (by rw [qn_at c' g4]; exact qn_div32 (by omega)) (nI_add T i)⟩) he
      · have e1 : T + i = X / 32 := by omega
        rw [e1, h1] at g3
        have e2 := qn_inj g3 (by omega) (by omega)
        rw [← e2]
        exact H
      · rcases Nat.lt_or_ge (T + i) (X / 32) with y2 | y2
        · omega
        · have e1 : T + i = X / 32 := by omega
          rw [e1, h1] at g3
          have e2 := qn_inj g3 (by omega) (by omega)
          rw [← e2, h2] at g4
          have e3 := qn_inj g4 (by omega) (by omega)
          rw [e3] at e1
          exact absurd e1.symm y
/-- the customer of the next event, out of the lists -/
theorem qn_cCD {l X : Nat} {L : List Nat} {ft : Int32} {a21 a22 a23 : Nat → Int32} (hW : X % 16 < 2 ∧ X < 8192) (hL : ∀ Y, Y ∈ L → X < Y ∧ Y < 8192 ∧ Y % 16 < 2) (h : qn_C l ft a21 a22 a23 (X :: L)) :
    ft = nI (l / 32) ∧ a21 (X / 32 % 16) = nI (X % 16) ∧ a23 (X % 16) = nI X ∧ ∀ d, d < 16 → qn_CD a21 a23 X (X % 16) d := by
  match L, hL, h with
  | [], hL, h =>
    obtain ⟨h1, h2, h3, h4, h5⟩ := h
    refine ⟨h1, h4, h2, fun d hd => ?_⟩
    by_cases e : d = X / 32 % 16
    · exact Or.inr ⟨X % 16, X, by omega, by omega, by rw [e]; exact h4, h2, Nat.le_refl _, e.symm, fun _ => rfl⟩
    · exact Or.inl (h5 d hd e)
  | Y :: L', hL, h =>
    obtain ⟨h1, h2, h3, h4, h5, h6, h7, h8⟩ := h
    obtain ⟨y1, y2, y3⟩ := hL Y List.mem_cons_self
    refine ⟨h1, h5, h2, fun d hd => ?_⟩
    by_cases e : d = X / 32 % 16
    · exact Or.inr ⟨X % 16, X, by omega, by omega, by rw [e]; exact h5, h2, Nat.le_refl _, e.symm, fun _ => rfl⟩
    · by_cases e2 : d = Y / 32 % 16
      · exact Or.inr ⟨Y % 16, Y, by omega, y2, by rw [e2]; exact (h7 (by omega)).2, h3, by omega, e2.symm, fun z => absurd z (by omega)⟩
      · exact Or.inl (h8 d hd e e2)
theorem qn_c63 {post : St2 → Prop} {fc fg fe fp ft fr fl : Int32} {a1 a2 a3 a4 a5 a6 a7 a8 a9 a10 a11 a12 a13 a14 a15 a16 a17 a18 a19 a20 a21 a22 a23 a24 a25 a26 a27 : Nat → Int32} {c day : Nat} {x5 v : Int32} (hc : c < 12) (hd : day < 16) (hv : x5.toInt8.toInt32 = v)
    (H : post (fc, fg, fe, fp, ft, fr, fl, a1, a2, a3, a4, a5, a6, a7, a8, a9, a10, a11, a12, a13, a14, a15, a16, a17, a18, a19, a20, upd a21 day (nI c), upd a22 c v, a23, a24, a25, a26, a27)) : wX_calendarAdd_63 post (nI c) (nI day) (-1) x5 fc fg fe fp ft fr fl a1 a2 a3 a4 a5 a6 a7 a8 a9 a10 a11 a12 a13 a14 a15 a16 a17 a18 a19 a20 a21 a22 a23 a24 a25 a26 a27 :=
  ⟨pk_in c 12 hc, qn_st c (br_f (by decide) ⟨pk_in day 16 hd, qn_st day H (hv := qn_b c (by omega))⟩) (hv := hv)⟩
theorem qn_c63' {post : St2 → Prop} {fc fg fe fp ft fr fl : Int32} {a1 a2 a3 a4 a5 a6 a7 a8 a9 a10 a11 a12 a13 a14 a15 a16 a17 a18 a19 a20 a21 a22 a23 a24 a25 a26 a27 : Nat → Int32} {c d : Nat} {x3 x5 v : Int32} (hc : c < 12) (hd : d < 12) (hv : x5.toInt8.toInt32 = v)
    (H : post (fc, fg, fe, fp, ft, fr, fl, a1, a2, a3, a4, a5, a6, a7, a8, a9, a10, a11, a12, a13, a14, a15, a16, a17, a18, a19, a20, a21, upd (upd a22 c v) d (nI c), a23, a24, a25, a26, a27)) : wX_calendarAdd_63 post (nI c) x3 (nI d) x5 fc fg fe fp ft fr fl a1 a2 a3 a4 a5 a6 a7 a8 a9 a10 a11 a12 a13 a14 a15 a16 a17 a18 a19 a20 a21 a22 a23 a24 a25 a26 a27 :=
  ⟨pk_in c 12 hc, qn_st c (br_t (nI_pos' (by omega)) ⟨pk_in d 12 hd, qn_st d H (hv := qn_b c (by omega))⟩) (hv := hv)⟩
theorem qn_cAdd {post : St2 → Prop} {fc fg fe fp ft fr fl : Int32} {a1 a2 a3 a4 a5 a6 a7 a8 a9 a10 a11 a12 a13 a14 a15 a16 a17 a18 a19 a20 a21 a22 a23 a24 a25 a26 a27 : Nat → Int32} {X : Nat} {v : Int32} (hX : X < 8192) (hc : X % 16 < 12) (hv : a21 (X / 32 % 16) = v)
    (H : ∃ fu, wX_calendarAdd_31 post (nI X) (nI (X % 16)) (nI (X / 32 % 16)) fc fg fe fp ft fr fl a1 a2 a3 a4 a5 a6 a7 a8 a9 a10 a11 a12 a13 a14 a15 a16 a17 a18 a19 a20 a21 a22 (upd a23 (X % 16) (nI X)) a24 a25 a26 a27 fu (-1) v) : wpX_calendarAdd post (fc, fg, fe, fp, ft, fr, fl, a1, a2, a3, a4, a5, a6, a7, a8, a9, a10, a11, a12, a13, a14, a15, a16, a17, a18, a19, a20, a21, a22, a23, a24, a25, a26, a27) (nI X) := by
  unfold wpX_calendarAdd
  exact qn_cust hX ⟨by decide, by decide, nm_r (qn_day (by omega)) ⟨pk_in (X % 16) 12 hc, qn_st (X % 16) ⟨pk_in (X / 32 % 16) 16 (by omega), qn_rd (X / 32 % 16) hv H⟩⟩⟩
theorem qn_cAdd0 {post : St2 → Prop} {fc fg fe fp ft fr fl : Int32} {a1 a2 a3 a4 a5 a6 a7 a8 a9 a10 a11 a12 a13 a14 a15 a16 a17 a18 a19 a20 a21 a22 a23 a24 a25 a26 a27 : Nat → Int32} {l X : Nat} (hX : X < 8192) (hc : X % 16 < 2) (h : qn_C l ft a21 a22 a23 [])
    (H : ∀ a21' a22' a23' : Nat → Int32, qn_C l ft a21' a22' a23' [X] → post (fc, fg, fe, fp, ft, fr, fl, a1, a2, a3, a4, a5, a6, a7, a8, a9, a10, a11, a12, a13, a14, a15, a16, a17, a18, a19, a20, a21', a22', a23', a24, a25, a26, a27)) : wpX_calendarAdd post (fc, fg, fe, fp, ft, fr, fl, a1, a2, a3, a4, a5, a6, a7, a8, a9, a10, a11, a12, a13, a14, a15, a16, a17, a18, a19, a20, a21, a22, a23, a24, a25, a26, a27) (nI X) := by
  obtain ⟨h1, h2⟩ := h
  refine qn_cAdd hX (by omega) (h2 _ (by omega)) ⟨1, br_t (by decide) (qn_c63 (by omega) (by omega) qn_bm (H _ _ _ ⟨h1, pk_us, pk_us, pk_us, fun d hd hn => ?_⟩))⟩
  rw [pk_un hn]
  exact h2 d hd
theorem qn_cAdd1 {post : St2 → Prop} {fc fg fe fp ft fr fl : Int32} {a1 a2 a3 a4 a5 a6 a7 a8 a9 a10 a11 a12 a13 a14 a15 a16 a17 a18 a19 a20 a21 a22 a23 a24 a25 a26 a27 : Nat → Int32} {l X Y : Nat} (hX : X < 8192) (hY : Y < 8192) (hc : X % 16 < 2) (hd : Y % 16 < 2) (hne : X % 16 ≠ Y % 16) (h : qn_C l ft a21 a22 a23 [Y])
    (H : ∀ a21' a22' a23' : Nat → Int32, (X < Y → qn_C l ft a21' a22' a23' [X, Y]) → (Y < X → qn_C l ft a21' a22' a23' [Y, X]) → post (fc, fg, fe, fp, ft, fr, fl, a1, a2, a3, a4, a5, a6, a7, a8, a9, a10, a11, a12, a13, a14, a15, a16, a17, a18, a19, a20, a21', a22', a23', a24, a25, a26, a27)) : wpX_calendarAdd post (fc, fg, fe, fp, ft, fr, fl, a1, a2, a3, a4, a5, a6, a7, a8, a9, a10, a11, a12, a13, a14, a15, a16, a17, a18, a19, a20, a21, a22, a23, a24, a25, a26, a27) (nI X) := by
  obtain ⟨h1, h2, h3, h4, h5⟩ := h
  have hne' : Y % 16 ≠ X % 16 := fun z => hne z.symm
  by_cases e : X / 32 % 16 = Y / 32 % 16
  · refine qn_cAdd (v := nI (Y % 16)) hX (by omega) (by rw [e]; exact h4) ?_
    refine ⟨2, br_f (nI_pos (by omega)) ⟨pk_in (Y % 16) 12 (by omega), pk_le X Y (fun z => ?_) (fun z => ⟨pk_in (Y % 16) 12 (by omega), qn_rd (Y % 16) h3 (br_t (by decide) ?_)⟩) (hy := qn_at (Y % 16) (by rw [pk_un hne']; exact h2))⟩⟩
    · refine qn_c63 (by omega) (by omega) (qn_b _ (by omega)) (H _ _ _ (fun _ => ⟨h1, pk_us, by rw [pk_un hne']; exact h2, by rw [pk_un hne']; exact h3, pk_us, fun _ => pk_us, fun y => absurd e y, fun d hd y1 y2 => ?_⟩) (fun y => absurd y (by omega)))
      rw [pk_un y1]
      exact h5 d hd y2
    · refine qn_c63' (by omega) (by omega) qn_bm (H _ _ _ (fun y => absurd y (by omega)) (fun _ => ⟨h1, by rw [pk_un hne']; exact h2, pk_us, by rw [pk_un hne]; exact pk_us, h4, fun _ => pk_us, fun y => absurd e.symm y, fun d hd y1 y2 => h5 d hd y1⟩))
  · have e' : Y / 32 % 16 ≠ X / 32 % 16 := fun z => e z.symm
    refine qn_cAdd hX (by omega) (h5 _ (by omega) e) ⟨1, br_t (by decide) (qn_c63 (by omega) (by omega) qn_bm (H _ _ _ (fun _ => ?_) (fun _ => ?_)))⟩
    · exact ⟨h1, pk_us, by rw [pk_un hne']; exact h2, by rw [pk_un hne']; exact h3, pk_us, fun y => absurd y e, fun _ => ⟨pk_us, by rw [pk_un e']; exact h4⟩, fun d hd y1 y2 => by rw [pk_un y1]; exact h5 d hd y2⟩
    · exact ⟨h1, by rw [pk_un hne']; exact h2, pk_us, pk_us, by rw [pk_un e']; exact h4, fun y => absurd y e', fun _ => ⟨by rw [pk_un hne']; exact h3, pk_us⟩, fun d hd y1 y2 => by rw [pk_un y2]; exact h5 d hd y1⟩
theorem qn_cTake {post : Int32 → St2 → Prop} {fc fg fe fp ft fr fl : Int32} {a1 a2 a3 a4 a5 a6 a7 a8 a9 a10 a11 a12 a13 a14 a15 a16 a17 a18 a19 a20 a21 a22 a23 a24 a25 a26 a27 : Nat → Int32} {l X : Nat} {L : List Nat} (hX : X < 8192) (hc : X % 16 < 2) (hl : l ≤ X) (hlen : L.length ≤ 1) (hL : ∀ Y, Y ∈ L → X < Y ∧ Y < 8192 ∧ Y % 16 < 2 ∧ X % 16 ≠ Y % 16) (h : qn_C l ft a21 a22 a23 (X :: L))
    (H : ∀ (ft' : Int32) (a21' : Nat → Int32), qn_C X ft' a21' a22 a23 L → post (nI X) (fc, fg, fe, fp, ft', fr, fl, a1, a2, a3, a4, a5, a6, a7, a8, a9, a10, a11, a12, a13, a14, a15, a16, a17, a18, a19, a20, a21', a22, a23, a24, a25, a26, a27)) : wpX_calendarTake post (fc, fg, fe, fp, ft, fr, fl, a1, a2, a3, a4, a5, a6, a7, a8, a9, a10, a11, a12, a13, a14, a15, a16, a17, a18, a19, a20, a21, a22, a23, a24, a25, a26, a27) := by
  obtain ⟨g1, g2, g3, g4⟩ := qn_cCD ⟨hc, hX⟩ (fun Y hY => ⟨(hL Y hY).1, (hL Y hY).2.1, (hL Y hY).2.2.1⟩) h
  have hdv : a23 (nI (X % 16)).toNatClampNeg / 32 = nI (X / 32) := by
    rw [qn_at (X % 16) g3]
    exact qn_div32 (by omega)
  unfold wpX_calendarTake
  refine qn_cNext g1 (by omega) hX (by omega) g2 g3 g4 ⟨pk_in (X % 16) 12 (by omega), by decide, nm_r hdv ⟨by decide, pk_in (X % 16) 12 (by omega), pk_in (X / 32 % 16) 16 (by omega) (qn_rem16 (by omega)), ?_⟩⟩
  have fin : ∀ v : Int32, a22 (X % 16) = v → vp_nar .byte v = v → (qn_C X (nI (X / 32)) (upd a21 (X / 32 % 16) v) a22 a23 L) → ∀ g, g = upd a21 (nI (X / 32) - nI (X / 32) / 16 * 16).toNatClampNeg (vp_nar .byte (a22 (nI (X % 16)).toNatClampNeg)) → vp_in (nI (X % 16)) 12 ∧ post (a23 (nI (X % 16)).toNatClampNeg) (fc, fg, fe, fp, nI (X / 32), fr, fl, a1, a2, a3, a4, a5, a6, a7, a8, a9, a10, a11, a12, a13, a14, a15, a16, a17, a18, a19, a20, g, a22, a23, a24, a25, a26, a27) := by
    intro v hv hn hC
    refine qn_st (P := fun g => vp_in (nI (X % 16)) 12 ∧ post (a23 (nI (X % 16)).toNatClampNeg) (fc, fg, fe, fp, nI (X / 32), fr, fl, a1, a2, a3, a4, a5, a6, a7, a8, a9, a10, a11, a12, a13, a14, a15, a16, a17, a18, a19, a20, g, a22, a23, a24, a25, a26, a27)) (w := v) (X / 32 % 16) ⟨pk_in (X % 16) 12 (by omega), ?_⟩ (qn_rem16 (by omega)) (by omega) (by rw [qn_at (X % 16) hv, hn])
    rw [qn_at (X % 16) g3]
    exact H _ _ hC
  match L, hlen, hL, h with
  | [], hlen, hL, h =>
    obtain ⟨h1, h2, h3, h4, h5⟩ := h
    refine fin (-1) h3 qn_narm ⟨rfl, fun d hd => ?_⟩
    by_cases e : d = X / 32 % 16
    · rw [e, pk_us]
    · rw [pk_un e]
      exact h5 d hd e
  | [Y], hlen, hL, h =>
    obtain ⟨h1, h2, h3, h4, h5, h6, h7, h8⟩ := h
    obtain ⟨y1, y2, y3, y4⟩ := hL Y List.mem_cons_self
    by_cases e : X / 32 % 16 = Y / 32 % 16
    · refine fin (nI (Y % 16)) (h6 e) (qn_nar (by omega)) ⟨rfl, h3, h4, by rw [← e]; exact pk_us, fun d hd hn => ?_⟩
      rw [← e] at hn
      rw [pk_un hn]
      exact h8 d hd hn (by rw [← e]; exact hn)
    · have e' : Y / 32 % 16 ≠ X / 32 % 16 := fun z => e z.symm
      refine fin (-1) (h7 e).1 qn_narm ⟨rfl, h3, h4, by rw [pk_un e']; exact (h7 e).2, fun d hd hn => ?_⟩
      by_cases e2 : d = X / 32 % 16
      · rw [e2, pk_us]
      · rw [pk_un e2]
        exact h8 d hd e2 hn
  | _ :: _ :: _, hlen, _, _ => exact absurd hlen (by simp)
end
section
/-! ===== engine 2: trees with at most two events ===== -/
def qn_T (fr : Int32) (a23 a24 a25 : Nat → Int32) : List Nat → Prop
  | [] => fr = -1
  | [X] => fr = nI (X % 16) ∧ a23 (X % 16) = nI X ∧ a24 (X % 16) = -1
  | X :: Y :: _ => fr = nI (X % 16) ∧ a23 (X % 16) = nI X ∧ a23 (Y % 16) = nI Y ∧ a24 (X % 16) = nI (Y % 16) ∧ a24 (Y % 16) = -1 ∧ a25 (Y % 16) = -1
theorem qn_mN {post : Int32 → St2 → Prop} {fc fg fe fp ft fr fl : Int32} {a1 a2 a3 a4 a5 a6 a7 a8 a9 a10 a11 a12 a13 a14 a15 a16 a17 a18 a19 a20 a21 a22 a23 a24 a25 a26 a27 : Nat → Int32} {p1 : Int32} (H : post p1 (fc, fg, fe, fp, ft, fr, fl, a1, a2, a3, a4, a5, a6, a7, a8, a9, a10, a11, a12, a13, a14, a15, a16, a17, a18, a19, a20, a21, a22, a23, a24, a25, a26, a27)) : wpX_meld post (fc, fg, fe, fp, ft, fr, fl, a1, a2, a3, a4, a5, a6, a7, a8, a9, a10, a11, a12, a13, a14, a15, a16, a17, a18, a19, a20, a21, a22, a23, a24, a25, a26, a27) (-1) p1 :=
  br_t (by decide) (br_f (by decide) H)
theorem qn_mN2 {post : Int32 → St2 → Prop} {fc fg fe fp ft fr fl : Int32} {a1 a2 a3 a4 a5 a6 a7 a8 a9 a10 a11 a12 a13 a14 a15 a16 a17 a18 a19 a20 a21 a22 a23 a24 a25 a26 a27 : Nat → Int32} {d : Nat} (hd : d < 12) (H : post (nI d) (fc, fg, fe, fp, ft, fr, fl, a1, a2, a3, a4, a5, a6, a7, a8, a9, a10, a11, a12, a13, a14, a15, a16, a17, a18, a19, a20, a21, a22, a23, a24, a25, a26, a27)) : wpX_meld_2 post (fc, fg, fe, fp, ft, fr, fl, a1, a2, a3, a4, a5, a6, a7, a8, a9, a10, a11, a12, a13, a14, a15, a16, a17, a18, a19, a20, a21, a22, a23, a24, a25, a26, a27) (nI d) (-1) :=
  br_f (nI_pos (by omega)) (br_f (by decide) (br_t (nI_pos' (by omega)) H))
theorem qn_m49 {post : Int32 → St2 → Prop} {fc fg fe fp ft fr fl : Int32} {a1 a2 a3 a4 a5 a6 a7 a8 a9 a10 a11 a12 a13 a14 a15 a16 a17 a18 a19 a20 a21 a22 a23 a24 a25 a26 a27 : Nat → Int32} {k u : Nat} (hk : k < 12) (hu : u < 12) (h : a24 k = -1)
    (H : post (nI k) (fc, fg, fe, fp, ft, fr, fl, a1, a2, a3, a4, a5, a6, a7, a8, a9, a10, a11, a12, a13, a14, a15, a16, a17, a18, a19, a20, a21, a22, a23, upd a24 k (nI u), upd a25 u (-1), a26, a27)) : wX_meld_49 post (nI k) (nI u) fc fg fe fp ft fr fl a1 a2 a3 a4 a5 a6 a7 a8 a9 a10 a11 a12 a13 a14 a15 a16 a17 a18 a19 a20 a21 a22 a23 a24 a25 a26 a27 :=
  ⟨pk_in k 12 hk, pk_in u 12 hu, qn_st u ⟨pk_in k 12 hk, qn_st k H (hv := qn_b u (by omega))⟩ (hv := by rw [qn_at k h]; exact qn_narm)⟩
theorem qn_m2 {post : Int32 → St2 → Prop} {fc fg fe fp ft fr fl : Int32} {a1 a2 a3 a4 a5 a6 a7 a8 a9 a10 a11 a12 a13 a14 a15 a16 a17 a18 a19 a20 a21 a22 a23 a24 a25 a26 a27 : Nat → Int32} {c d X Y : Nat} (hX : X < 8192) (hY : Y < 8192) (hc : c < 12) (hd : d < 12) (hcd : c ≠ d) (h1 : a23 c = nI X) (h2 : a23 d = nI Y) (h3 : a24 c = -1) (h4 : a24 d = -1)
    (H1 : X ≤ Y → post (nI c) (fc, fg, fe, fp, ft, fr, fl, a1, a2, a3, a4, a5, a6, a7, a8, a9, a10, a11, a12, a13, a14, a15, a16, a17, a18, a19, a20, a21, a22, a23, upd a24 c (nI d), upd a25 d (-1), a26, a27)) (H2 : Y < X → post (nI d) (fc, fg, fe, fp, ft, fr, fl, a1, a2, a3, a4, a5, a6, a7, a8, a9, a10, a11, a12, a13, a14, a15, a16, a17, a18, a19, a20, a21, a22, a23, upd a24 d (nI c), upd a25 c (-1), a26, a27)) : wpX_meld post (fc, fg, fe, fp, ft, fr, fl, a1, a2, a3, a4, a5, a6, a7, a8, a9, a10, a11, a12, a13, a14, a15, a16, a17, a18, a19, a20, a21, a22, a23, a24, a25, a26, a27) (nI d) (nI c) :=
  br_f (nI_pos (by omega)) (br_t (nI_pos' (by omega)) ⟨pk_in d 12 hd, pk_in c 12 hc, pk_le X Y
    (fun z => pk_eq c d (fun y => absurd y hcd) (fun _ => qn_m49 hc hd h3 (H1 z)))
    (fun z => br_t rfl (qn_m49 hd hc h4 (H2 z))) (qn_at c h1) (qn_at d h2)⟩)
theorem qn_tAdd0 {post : St2 → Prop} {fc fg fe fp ft fr fl : Int32} {a1 a2 a3 a4 a5 a6 a7 a8 a9 a10 a11 a12 a13 a14 a15 a16 a17 a18 a19 a20 a21 a22 a23 a24 a25 a26 a27 : Nat → Int32} {X : Nat} (hX : X < 8192) (hc : X % 16 < 2) (h : qn_T fr a23 a24 a25 [])
    (H : ∀ (fr' : Int32) (a23' a24' a25' : Nat → Int32), qn_T fr' a23' a24' a25' [X] → post (fc, fg, fe, fp, ft, fr', fl, a1, a2, a3, a4, a5, a6, a7, a8, a9, a10, a11, a12, a13, a14, a15, a16, a17, a18, a19, a20, a21, a22, a23', a24', a25', a26, a27)) : wpX_treeAdd post (fc, fg, fe, fp, ft, fr, fl, a1, a2, a3, a4, a5, a6, a7, a8, a9, a10, a11, a12, a13, a14, a15, a16, a17, a18, a19, a20, a21, a22, a23, a24, a25, a26, a27) (nI X) := by
  have h' : fr = -1 := h
  subst h'
  unfold wpX_treeAdd
  exact qn_cust hX ⟨pk_in (X % 16) 12 (by omega), qn_st (X % 16) ⟨pk_in (X % 16) 12 (by omega), qn_st (X % 16) ⟨pk_in (X % 16) 12 (by omega), qn_st (X % 16) (qn_mN (H _ _ _ _ ⟨rfl, pk_us, pk_us⟩))⟩⟩⟩
theorem qn_tAdd1 {post : St2 → Prop} {fc fg fe fp ft fr fl : Int32} {a1 a2 a3 a4 a5 a6 a7 a8 a9 a10 a11 a12 a13 a14 a15 a16 a17 a18 a19 a20 a21 a22 a23 a24 a25 a26 a27 : Nat → Int32} {X Y : Nat} (hX : X < 8192) (hY : Y < 8192) (hc : X % 16 < 2) (hd : Y % 16 < 2) (hne : X % 16 ≠ Y % 16) (h : qn_T fr a23 a24 a25 [Y])
    (H : ∀ (fr' : Int32) (a23' a24' a25' : Nat → Int32), (X < Y → qn_T fr' a23' a24' a25' [X, Y]) → (Y < X → qn_T fr' a23' a24' a25' [Y, X]) → post (fc, fg, fe, fp, ft, fr', fl, a1, a2, a3, a4, a5, a6, a7, a8, a9, a10, a11, a12, a13, a14, a15, a16, a17, a18, a19, a20, a21, a22, a23', a24', a25', a26, a27)) : wpX_treeAdd post (fc, fg, fe, fp, ft, fr, fl, a1, a2, a3, a4, a5, a6, a7, a8, a9, a10, a11, a12, a13, a14, a15, a16, a17, a18, a19, a20, a21, a22, a23, a24, a25, a26, a27) (nI X) := by
  obtain ⟨h1, h2, h3⟩ := h
  subst h1
  have hne' : Y % 16 ≠ X % 16 := fun z => hne z.symm
  have hXY : X ≠ Y := fun z => hne (by rw [z])
  unfold wpX_treeAdd
  refine qn_cust hX ⟨pk_in (X % 16) 12 (by omega), qn_st (X % 16) ⟨pk_in (X % 16) 12 (by omega), qn_st (X % 16) ⟨pk_in (X % 16) 12 (by omega), qn_st (X % 16) ?_⟩⟩⟩
  refine qn_m2 (X := X) (Y := Y) hX hY (by omega) (by omega) hne pk_us (by rw [pk_un hne']; exact h2) pk_us (by rw [pk_un hne']; exact h3) (fun z => ?_) (fun z => ?_)
  · exact H _ _ _ _ (fun _ => ⟨rfl, pk_us, by rw [pk_un hne']; exact h2, pk_us, by rw [pk_un hne', pk_un hne']; exact h3, pk_us⟩) (fun y => absurd y (by omega))
  · exact H _ _ _ _ (fun y => absurd y (by omega)) (fun _ => ⟨rfl, by rw [pk_un hne']; exact h2, pk_us, pk_us, by rw [pk_un hne]; exact pk_us, pk_us⟩)
theorem qn_tTake {post : Int32 → St2 → Prop} {fc fg fe fp ft fr fl : Int32} {a1 a2 a3 a4 a5 a6 a7 a8 a9 a10 a11 a12 a13 a14 a15 a16 a17 a18 a19 a20 a21 a22 a23 a24 a25 a26 a27 : Nat → Int32} {X : Nat} {L : List Nat} (hX : X < 8192) (hc : X % 16 < 2) (hlen : L.length ≤ 1) (hL : ∀ Y, Y ∈ L → X < Y ∧ Y < 8192 ∧ Y % 16 < 2 ∧ X % 16 ≠ Y % 16) (h : qn_T fr a23 a24 a25 (X :: L))
    (H : ∀ (fr' : Int32) (a25' a26' : Nat → Int32), qn_T fr' a23 a24 a25' L → post (nI X) (fc, fg, fe, fp, ft, fr', fl, a1, a2, a3, a4, a5, a6, a7, a8, a9, a10, a11, a12, a13, a14, a15, a16, a17, a18, a19, a20, a21, a22, a23, a24, a25', a26', a27)) : wpX_treeTake post (fc, fg, fe, fp, ft, fr, fl, a1, a2, a3, a4, a5, a6, a7, a8, a9, a10, a11, a12, a13, a14, a15, a16, a17, a18, a19, a20, a21, a22, a23, a24, a25, a26, a27) := by
  match L, hlen, hL, h, H with
  | [], hlen, hL, h, H =>
    obtain ⟨h1, h2, h3⟩ := h
    subst h1
    exact ⟨pk_in (X % 16) 12 (by omega), qn_rd (X % 16) h2 ⟨pk_in (X % 16) 12 (by omega), qn_rd (X % 16) h3 ⟨1, br_t (by decide) (nm_r (e' := -1) (by decide) ⟨1, br_t (by decide) (H _ _ _ rfl)⟩)⟩⟩⟩
  | [Y], hlen, hL, h, H =>
    obtain ⟨h1, h2, h3, h4, h5, h6⟩ := h
    obtain ⟨y1, y2, y3, y4⟩ := hL Y List.mem_cons_self
    subst h1
    refine ⟨pk_in (X % 16) 12 (by omega), qn_rd (X % 16) h2 ⟨pk_in (X % 16) 12 (by omega), qn_rd (X % 16) h4 ⟨2, br_f (nI_pos (by omega)) ⟨pk_in (Y % 16) 12 (by omega), qn_rd (Y % 16) h6 (br_t (by decide) ?_)⟩⟩⟩⟩
    refine ⟨pk_in (Y % 16) 12 (by omega), qn_st (Y % 16) (br_t (by decide) ?_)⟩
    refine qn_mN2 (d := Y % 16) (by omega) ⟨pk_in 0 12 (by omega), qn_st 0 (w := nI (Y % 16)) (nm_r (e' := nI 1) (by decide) ?_) (hv := qn_b _ (by omega))⟩
    refine br_t (by decide) (nm_r (e' := nI 0) (by decide) ⟨2, br_f (by decide) ⟨pk_in 0 12 (by omega), qn_mN (nm_r (e' := -1) (by decide) (br_t (by decide) (H _ _ _ ⟨qn_at 0 pk_us, h3, h5⟩)))⟩⟩)
  | _ :: _ :: _, hlen, _, _, _ => exact absurd hlen (by simp)
end
section
/-! ===== engine 3: buckets with at most two events ===== -/
def qn_K (l : Nat) (fl : Int32) (a22 a23 a27 : Nat → Int32) : List Nat → Prop
  | [] => fl = nI l ∧ ∀ b, b < 24 → a27 b = -1
  | [X] => fl = nI l ∧ a23 (X % 16) = nI X ∧ a22 (X % 16) = -1 ∧ a27 (qn_bk l X) = nI (X % 16) ∧ ∀ b, b < 24 → b ≠ qn_bk l X → a27 b = -1
  | X :: Y :: _ => fl = nI l ∧ a23 (X % 16) = nI X ∧ a23 (Y % 16) = nI Y ∧
      (qn_bk l X ≠ qn_bk l Y → a27 (qn_bk l X) = nI (X % 16) ∧ a22 (X % 16) = -1 ∧ a27 (qn_bk l Y) = nI (Y % 16) ∧ a22 (Y % 16) = -1) ∧
      (qn_bk l X = qn_bk l Y → (a27 (qn_bk l X) = nI (X % 16) ∧ a22 (X % 16) = nI (Y % 16) ∧ a22 (Y % 16) = -1) ∨ (a27 (qn_bk l X) = nI (Y % 16) ∧ a22 (Y % 16) = nI (X % 16) ∧ a22 (X % 16) = -1)) ∧
      ∀ b, b < 24 → b ≠ qn_bk l X → b ≠ qn_bk l Y → a27 b = -1
theorem qn_bFor9 {post : Int32 → Prop} {fc fg fe fp ft fr fl : Int32} {a1 a2 a3 a4 a5 a6 a7 a8 a9 a10 a11 a12 a13 a14 a15 a16 a17 a18 a19 a20 a21 a22 a23 a24 a25 a26 a27 : Nat → Int32} : ∀ (f d n : Nat), d < 2 ^ f → f ≤ 20 → n + f ≤ 100 → post (nI (n + qn_bl d)) → wX_bucketFor_9 post fc fg fe fp ft fr fl a1 a2 a3 a4 a5 a6 a7 a8 a9 a10 a11 a12 a13 a14 a15 a16 a17 a18 a19 a20 a21 a22 a23 a24 a25 a26 a27 (f + 1) (nI d) (nI n) := by
  intro f
  induction f with
  | zero =>
    intro d n hd _ _ H
    rw [Nat.pow_zero] at hd
    have e : d = 0 := by omega
    subst e
    rw [qn_bl_0] at H
    exact br_t rfl H
  | succ f ih =>
    intro d n hd hf hn H
    by_cases e : d = 0
    · subst e
      rw [qn_bl_0] at H
      exact br_t rfl H
    · have hd31 : d < 2 ^ 31 := Nat.lt_of_lt_of_le hd (Nat.pow_le_pow_right (by omega) (by omega))
      rw [qn_bl_half e, show n + (qn_bl (d / 2) + 1) = n + 1 + qn_bl (d / 2) by omega] at H
      have hs : nI d >>> ((1 : Int32) &&& 31) = nI (d / 2) := pk_shrN hd31 ((1 : Int32) &&& 31) 1 (by decide)
      rw [Nat.pow_succ] at hd
      exact br_f (nI_ne0 (by omega) hd31) (nm_r hs (nm_r (nI_1 n) (ih (d / 2) (n + 1) (by omega) (by omega) (by omega) H)))
theorem qn_bFor {post : Int32 → Prop} {fc fg fe fp ft fr fl : Int32} {a1 a2 a3 a4 a5 a6 a7 a8 a9 a10 a11 a12 a13 a14 a15 a16 a17 a18 a19 a20 a21 a22 a23 a24 a25 a26 a27 : Nat → Int32} {X l : Nat} (hfl : fl = nI l) (hX : X < 8192) (hl : l < 8192) (H : post (nI (qn_bk l X))) : wpX_bucketFor post (fc, fg, fe, fp, ft, fr, fl, a1, a2, a3, a4, a5, a6, a7, a8, a9, a10, a11, a12, a13, a14, a15, a16, a17, a18, a19, a20, a21, a22, a23, a24, a25, a26, a27) (nI X) := by
  subst hfl
  refine nm_r (qn_xor X l) ⟨14, qn_bFor9 13 (X ^^^ l) 0 (Nat.xor_lt_two_pow (n := 13) hX hl) (by omega) (by omega) ?_⟩
  rw [Nat.zero_add]
  exact H
theorem qn_bAdd {post : St2 → Prop} {fc fg fe fp ft fr fl : Int32} {a1 a2 a3 a4 a5 a6 a7 a8 a9 a10 a11 a12 a13 a14 a15 a16 a17 a18 a19 a20 a21 a22 a23 a24 a25 a26 a27 : Nat → Int32} {X l : Nat} {v : Int32} (hfl : fl = nI l) (hX : X < 8192) (hl : l < 8192) (hc : X % 16 < 12) (hv : a27 (qn_bk l X) = v) (hn : vp_nar .byte v = v)
    (H : post (fc, fg, fe, fp, ft, fr, fl, a1, a2, a3, a4, a5, a6, a7, a8, a9, a10, a11, a12, a13, a14, a15, a16, a17, a18, a19, a20, a21, upd a22 (X % 16) v, upd a23 (X % 16) (nI X), a24, a25, a26, upd a27 (qn_bk l X) (nI (X % 16)))) : wpX_bucketAdd post (fc, fg, fe, fp, ft, fr, fl, a1, a2, a3, a4, a5, a6, a7, a8, a9, a10, a11, a12, a13, a14, a15, a16, a17, a18, a19, a20, a21, a22, a23, a24, a25, a26, a27) (nI X) := by
  have hb := qn_bk_13 hl hX
  unfold wpX_bucketAdd
  refine qn_cust hX (qn_bFor hfl hX hl ⟨pk_in (X % 16) 12 hc, qn_st (X % 16) ⟨pk_in (qn_bk l X) 24 (by omega), pk_in (X % 16) 12 hc, qn_st (X % 16) (w := v) ⟨pk_in (qn_bk l X) 24 (by omega), qn_st (qn_bk l X) H (hv := qn_b _ (by omega))⟩ (hv := ?_)⟩⟩)
  rw [qn_at (qn_bk l X) hv, hn]
theorem qn_fB {post : Int32 → Prop} {fc fg fe fp ft fr fl : Int32} {a1 a2 a3 a4 a5 a6 a7 a8 a9 a10 a11 a12 a13 a14 a15 a16 a17 a18 a19 a20 a21 a22 a23 a24 a25 a26 a27 : Nat → Int32} {b c : Nat} (hb : b < 23) (hc : c < 12) (h : a27 b = nI c) (hlt : ∀ j, j < b → a27 j = -1) (H : post (nI b)) : wpX_firstBucket post (fc, fg, fe, fp, ft, fr, fl, a1, a2, a3, a4, a5, a6, a7, a8, a9, a10, a11, a12, a13, a14, a15, a16, a17, a18, a19, a20, a21, a22, a23, a24, a25, a26, a27) :=
  pk_loop (σ := Unit) (fun n i _ => wX_firstBucket_2 post fc fg fe fp ft fr fl a1 a2 a3 a4 a5 a6 a7 a8 a9 a10 a11 a12 a13 a14 a15 a16 a17 a18 a19 a20 a21 a22 a23 a24 a25 a26 a27 n (nI i)) (fun _ _ => True) b 0 () (by omega) trivial
    (fun n _ _ => pk_le 23 b (fun z => absurd z (by omega)) (fun _ => ⟨pk_in b 24 (by omega), br_t (by rw [qn_at b h]; exact nI_pos' (by omega)) H⟩))
    (fun n i _ hi _ hw => pk_le 23 i (fun z => absurd z (by omega)) (fun _ => ⟨pk_in i 24 (by omega), br_f (by rw [qn_at i (hlt i hi)]; decide) (nm_r (nI_1 i) (hw () trivial))⟩))
/-- the customers of a bucket: one, or two in either order -/
def qn_BL (a22 a23 a27 : Nat → Int32) (b c X : Nat) : Prop :=
  (a27 b = nI c ∧ a22 c = -1) ∨ ∃ d Y : Nat, d < 12 ∧ d ≠ c ∧ X < Y ∧ Y < 8192 ∧ a23 d = nI Y ∧ ((a27 b = nI c ∧ a22 c = nI d ∧ a22 d = -1) ∨ (a27 b = nI d ∧ a22 d = nI c ∧ a22 c = -1))
theorem qn_lO {post : Int32 → Prop} {fc fg fe fp ft fr fl : Int32} {a1 a2 a3 a4 a5 a6 a7 a8 a9 a10 a11 a12 a13 a14 a15 a16 a17 a18 a19 a20 a21 a22 a23 a24 a25 a26 a27 : Nat → Int32} {b c X : Nat} (hb : b < 24) (hc : c < 12) (hX : X < 8192) (h1 : a23 c = nI X) (h : qn_BL a22 a23 a27 b c X) (H : post (nI c)) : wpX_leastOf post (fc, fg, fe, fp, ft, fr, fl, a1, a2, a3, a4, a5, a6, a7, a8, a9, a10, a11, a12, a13, a14, a15, a16, a17, a18, a19, a20, a21, a22, a23, a24, a25, a26, a27) (nI b) := by
  rcases h with ⟨g1, g2⟩ | ⟨d, Y, k1, k2, k3, k4, k5, ⟨g1, g2, g3⟩ | ⟨g1, g2, g3⟩⟩
  · refine ⟨pk_in b 24 hb, qn_rd b g1 ⟨pk_in b 24 hb, qn_rd b g1 ⟨2, br_f (nI_pos (by omega)) ⟨pk_in c 12 hc, pk_in c 12 hc, br_t (Int32.le_refl _) ⟨pk_in c 12 hc, qn_rd c g2 (br_t (by decide) H)⟩⟩⟩⟩⟩
  · refine ⟨pk_in b 24 hb, qn_rd b g1 ⟨pk_in b 24 hb, qn_rd b g1 ⟨3, br_f (nI_pos (by omega)) ⟨pk_in c 12 hc, pk_in c 12 hc, br_t (Int32.le_refl _) ⟨pk_in c 12 hc, qn_rd c g2 ?_⟩⟩⟩⟩⟩
    exact br_f (nI_pos (by omega)) ⟨pk_in d 12 k1, pk_in c 12 hc, pk_le X Y (fun _ => ⟨pk_in d 12 k1, qn_rd d g3 (br_t (by decide) H)⟩) (fun z => absurd z (by omega)) (qn_at c h1) (qn_at d k5)⟩
  · refine ⟨pk_in b 24 hb, qn_rd b g1 ⟨pk_in b 24 hb, qn_rd b g1 ⟨3, br_f (nI_pos (by omega)) ⟨pk_in d 12 k1, pk_in d 12 k1, br_t (Int32.le_refl _) ⟨pk_in d 12 k1, qn_rd d g2 ?_⟩⟩⟩⟩⟩
    exact br_f (nI_pos (by omega)) ⟨pk_in c 12 hc, pk_in d 12 k1, pk_le Y X (fun z => absurd z (by omega)) (fun _ => ⟨pk_in c 12 hc, qn_rd c g3 (br_t (by decide) H)⟩) (qn_at d k5) (qn_at c h1)⟩
theorem qn_kBL {l X : Nat} {L : List Nat} {fl : Int32} {a22 a23 a27 : Nat → Int32} (hX : X < 8192) (hl : l ≤ X) (hL : ∀ Y, Y ∈ L → X < Y ∧ Y < 8192 ∧ Y % 16 < 2 ∧ X % 16 ≠ Y % 16) (h : qn_K l fl a22 a23 a27 (X :: L)) :
    fl = nI l ∧ a23 (X % 16) = nI X ∧ qn_BL a22 a23 a27 (qn_bk l X) (X % 16) X ∧ (∀ j, j < qn_bk l X → a27 j = -1) ∧ ∃ c, c < 16 ∧ a27 (qn_bk l X) = nI c := by
  have hb := qn_bk_13 (l := l) (X := X) (by omega) hX
  match L, hL, h with
  | [], hL, h =>
    obtain ⟨h1, h2, h3, h4, h5⟩ := h
    exact ⟨h1, h2, Or.inl ⟨h4, h3⟩, fun j hj => h5 j (by omega) (by omega), X % 16, by omega, h4⟩
  | Y :: L', hL, h =>
    obtain ⟨h1, h2, h3, h4, h5, h6⟩ := h
    obtain ⟨y1, y2, y3, y4⟩ := hL Y List.mem_cons_self
    have hm := qn_bk_mono hl (Nat.le_of_lt y1)
    refine ⟨h1, h2, ?_, fun j hj => h6 j (by omega) (by omega) (by omega), ?_⟩
    · by_cases e : qn_bk l X = qn_bk l Y
      · exact Or.inr ⟨Y % 16, Y, by omega, fun z => y4 z.symm, y1, y2, h3, h5 e⟩
      · exact Or.inl ⟨(h4 e).1, (h4 e).2.1⟩
    · by_cases e : qn_bk l X = qn_bk l Y
      · rcases h5 e with g | g
        · exact ⟨X % 16, by omega, g.1⟩
        · exact ⟨Y % 16, by omega, g.1⟩
      · exact ⟨X % 16, by omega, (h4 e).1⟩
/-- the first bucket and its least customer -/
theorem qn_bNext {post : Int32 → Prop} {fc fg fe fp ft fr fl : Int32} {a1 a2 a3 a4 a5 a6 a7 a8 a9 a10 a11 a12 a13 a14 a15 a16 a17 a18 a19 a20 a21 a22 a23 a24 a25 a26 a27 : Nat → Int32} {l X : Nat} {L : List Nat} (hX : X < 8192) (hc : X % 16 < 2) (hl : l ≤ X) (hL : ∀ Y, Y ∈ L → X < Y ∧ Y < 8192 ∧ Y % 16 < 2 ∧ X % 16 ≠ Y % 16) (h : qn_K l fl a22 a23 a27 (X :: L))
    (H : post (nI (qn_bk l X))) : wpX_firstBucket post (fc, fg, fe, fp, ft, fr, fl, a1, a2, a3, a4, a5, a6, a7, a8, a9, a10, a11, a12, a13, a14, a15, a16, a17, a18, a19, a20, a21, a22, a23, a24, a25, a26, a27) := by
  obtain ⟨g1, g2, g3, g4, c, g5, g6⟩ := qn_kBL hX hl hL h
  have hb := qn_bk_13 (l := l) (X := X) (by omega) hX
  have hc12 : c < 12 := by
    rcases g3 with g | ⟨d, Y, k1, k2, k3, k4, k5, g | g⟩
    · have := (nI_eq (by omega) (by omega)).mp (g6.symm.trans g.1)
      omega
    · have := (nI_eq (by omega) (by omega)).mp (g6.symm.trans g.1)
      omega
    · have := (nI_eq (by omega) (by omega)).mp (g6.symm.trans g.1)
      omega
  exact qn_fB (by omega) hc12 g6 g4 H
theorem qn_bAdd0 {post : St2 → Prop} {fc fg fe fp ft fr fl : Int32} {a1 a2 a3 a4 a5 a6 a7 a8 a9 a10 a11 a12 a13 a14 a15 a16 a17 a18 a19 a20 a21 a22 a23 a24 a25 a26 a27 : Nat → Int32} {l X : Nat} (hX : X < 8192) (hl : l ≤ X) (hc : X % 16 < 2) (h : qn_K l fl a22 a23 a27 [])
    (H : ∀ a22' a23' a27' : Nat → Int32, qn_K l fl a22' a23' a27' [X] → post (fc, fg, fe, fp, ft, fr, fl, a1, a2, a3, a4, a5, a6, a7, a8, a9, a10, a11, a12, a13, a14, a15, a16, a17, a18, a19, a20, a21, a22', a23', a24, a25, a26, a27')) : wpX_bucketAdd post (fc, fg, fe, fp, ft, fr, fl, a1, a2, a3, a4, a5, a6, a7, a8, a9, a10, a11, a12, a13, a14, a15, a16, a17, a18, a19, a20, a21, a22, a23, a24, a25, a26, a27) (nI X) := by
  obtain ⟨h1, h2⟩ := h
  have hb := qn_bk_13 (l := l) (X := X) (by omega) hX
  refine qn_bAdd h1 hX (by omega) (by omega) (h2 _ (by omega)) qn_narm (H _ _ _ ⟨h1, pk_us, pk_us, pk_us, fun b hb hn => ?_⟩)
  rw [pk_un hn]
  exact h2 b hb
theorem qn_bAdd1 {post : St2 → Prop} {fc fg fe fp ft fr fl : Int32} {a1 a2 a3 a4 a5 a6 a7 a8 a9 a10 a11 a12 a13 a14 a15 a16 a17 a18 a19 a20 a21 a22 a23 a24 a25 a26 a27 : Nat → Int32} {l X Y : Nat} (hX : X < 8192) (hl : l ≤ X) (hY : Y < 8192) (hc : X % 16 < 2) (hd : Y % 16 < 2) (hne : X % 16 ≠ Y % 16) (h : qn_K l fl a22 a23 a27 [Y])
    (H : ∀ a22' a23' a27' : Nat → Int32, (X < Y → qn_K l fl a22' a23' a27' [X, Y]) → (Y < X → qn_K l fl a22' a23' a27' [Y, X]) → post (fc, fg, fe, fp, ft, fr, fl, a1, a2, a3, a4, a5, a6, a7, a8, a9, a10, a11, a12, a13, a14, a15, a16, a17, a18, a19, a20, a21, a22', a23', a24, a25, a26, a27')) : wpX_bucketAdd post (fc, fg, fe, fp, ft, fr, fl, a1, a2, a3, a4, a5, a6, a7, a8, a9, a10, a11, a12, a13, a14, a15, a16, a17, a18, a19, a20, a21, a22, a23, a24, a25, a26, a27) (nI X) := by
  obtain ⟨h1, h2, h3, h4, h5⟩ := h
  have hb := qn_bk_13 (l := l) (X := X) (by omega) hX
  have hne' : Y % 16 ≠ X % 16 := fun z => hne z.symm
  by_cases e : qn_bk l X = qn_bk l Y
  · have h4' : a27 (qn_bk l X) = nI (Y % 16) := by rw [e]; exact h4
    refine qn_bAdd h1 hX (by omega) (by omega) h4' (qn_nar (by omega)) (H _ _ _ (fun _ => ?_) (fun _ => ?_))
    · refine ⟨h1, pk_us, by rw [pk_un hne']; exact h2, fun z => absurd e z, fun _ => Or.inl ⟨pk_us, pk_us, by rw [pk_un hne']; exact h3⟩, fun b hb y1 y2 => ?_⟩
      rw [pk_un y1]
      exact h5 b hb y2
    · refine ⟨h1, by rw [pk_un hne']; exact h2, pk_us, fun z => absurd e.symm z, fun _ => Or.inr ⟨by rw [← e]; exact pk_us, pk_us, by rw [pk_un hne']; exact h3⟩, fun b hb y1 y2 => ?_⟩
      rw [pk_un y2]
      exact h5 b hb y1
  · have e' : qn_bk l Y ≠ qn_bk l X := fun z => e z.symm
    refine qn_bAdd h1 hX (by omega) (by omega) (h5 _ (by omega) e) qn_narm (H _ _ _ (fun _ => ?_) (fun _ => ?_))
    · refine ⟨h1, pk_us, by rw [pk_un hne']; exact h2, fun _ => ⟨pk_us, pk_us, by rw [pk_un e']; exact h4, by rw [pk_un hne']; exact h3⟩, fun z => absurd z e, fun b hb y1 y2 => ?_⟩
      rw [pk_un y1]
      exact h5 b hb y2
    · refine ⟨h1, by rw [pk_un hne']; exact h2, pk_us, fun _ => ⟨by rw [pk_un e']; exact h4, by rw [pk_un hne']; exact h3, pk_us, pk_us⟩, fun z => absurd z e', fun b hb y1 y2 => ?_⟩
      rw [pk_un y2]
      exact h5 b hb y1
/-- the loop that sorts a bucket's others anew: nothing to sort -/
theorem qn_bT1 {post : Int32 → St2 → Prop} {fc fg fe fp ft fr fl : Int32} {a1 a2 a3 a4 a5 a6 a7 a8 a9 a10 a11 a12 a13 a14 a15 a16 a17 a18 a19 a20 a21 a22 a23 a24 a25 a26 a27 : Nat → Int32} {c : Nat} (hc : c < 12) (h : a22 c = -1) (H : post fl (fc, fg, fe, fp, ft, fr, fl, a1, a2, a3, a4, a5, a6, a7, a8, a9, a10, a11, a12, a13, a14, a15, a16, a17, a18, a19, a20, a21, a22, a23, a24, a25, a26, a27)) : ∃ n, wX_bucketTake_35 post (nI c) n (nI c) fc fg fe fp ft fr fl a1 a2 a3 a4 a5 a6 a7 a8 a9 a10 a11 a12 a13 a14 a15 a16 a17 a18 a19 a20 a21 a22 a23 a24 a25 a26 a27 :=
  ⟨2, br_f (nI_pos (by omega)) ⟨pk_in c 12 hc, qn_rd c h (br_t rfl (br_t (by decide) H))⟩⟩
theorem qn_bTake {post : Int32 → St2 → Prop} {fc fg fe fp ft fr fl : Int32} {a1 a2 a3 a4 a5 a6 a7 a8 a9 a10 a11 a12 a13 a14 a15 a16 a17 a18 a19 a20 a21 a22 a23 a24 a25 a26 a27 : Nat → Int32} {l X : Nat} {L : List Nat} (hX : X < 8192) (hc : X % 16 < 2) (hl : l ≤ X) (hlen : L.length ≤ 1) (hL : ∀ Y, Y ∈ L → X < Y ∧ Y < 8192 ∧ Y % 16 < 2 ∧ X % 16 ≠ Y % 16) (h : qn_K l fl a22 a23 a27 (X :: L))
    (H : ∀ (fl' : Int32) (a22' a23' a27' : Nat → Int32), qn_K X fl' a22' a23' a27' L → post (nI X) (fc, fg, fe, fp, ft, fr, fl', a1, a2, a3, a4, a5, a6, a7, a8, a9, a10, a11, a12, a13, a14, a15, a16, a17, a18, a19, a20, a21, a22', a23', a24, a25, a26, a27')) : wpX_bucketTake post (fc, fg, fe, fp, ft, fr, fl, a1, a2, a3, a4, a5, a6, a7, a8, a9, a10, a11, a12, a13, a14, a15, a16, a17, a18, a19, a20, a21, a22, a23, a24, a25, a26, a27) := by
  obtain ⟨g1, g2, g3, g4, c, g5, g6⟩ := qn_kBL hX hl hL h
  have hb := qn_bk_13 (l := l) (X := X) (by omega) hX
  unfold wpX_bucketTake
  refine qn_bNext hX hc hl hL h (qn_lO (by omega) (by omega) hX g2 g3 ⟨pk_in (X % 16) 12 (by omega), qn_rd (X % 16) g2 ⟨pk_in (qn_bk l X) 24 (by omega), ?_⟩⟩)
  match L, hlen, hL, h, H with
  | [], hlen, hL, h, H =>
    obtain ⟨h1, h2, h3, h4, h5⟩ := h
    refine qn_rd (qn_bk l X) h4 ⟨pk_in (qn_bk l X) 24 (by omega), qn_st (qn_bk l X) (w := -1) (qn_bT1 (by omega) h3 (H _ _ _ _ ⟨rfl, fun b hb => ?_⟩))⟩
    by_cases e : b = qn_bk l X
    · rw [e, pk_us]
    · rw [pk_un e]
      exact h5 b hb e
  | [Y], hlen, hL, h, H =>
    obtain ⟨h1, h2, h3, h4, h5, h6⟩ := h
    obtain ⟨y1, y2, y3, y4⟩ := hL Y List.mem_cons_self
    have y4' : Y % 16 ≠ X % 16 := fun z => y4 z.symm
    have hb2 := qn_bk_13 (l := X) (X := Y) hX y2
    by_cases e : qn_bk l X = qn_bk l Y
    · have hall : ∀ b, b < 24 → upd a27 (qn_bk l X) (-1) b = -1 := by
        intro b hb
        by_cases e2 : b = qn_bk l X
        · rw [e2, pk_us]
        · rw [pk_un e2]
          exact h6 b hb e2 (by rw [← e]; exact e2)
      have fin : ∀ b, b < 24 → b ≠ qn_bk X Y → upd (upd a27 (qn_bk l X) (-1)) (qn_bk X Y) (nI (Y % 16)) b = -1 := by
        intro b hb hn
        rw [pk_un hn]
        exact hall b hb
      rcases h5 e with ⟨k1, k2, k3⟩ | ⟨k1, k2, k3⟩
      · refine qn_rd (qn_bk l X) k1 ⟨pk_in (qn_bk l X) 24 (by omega), qn_st (qn_bk l X) (w := -1) ⟨3, br_f (nI_pos (by omega)) ⟨pk_in (X % 16) 12 (by omega), qn_rd (X % 16) k2 (br_t rfl ?_)⟩⟩⟩
        refine br_f (nI_pos (by omega)) ⟨pk_in (Y % 16) 12 (by omega), qn_rd (Y % 16) k3 (pk_eq (Y % 16) (X % 16) (fun z => absurd z y4') (fun _ => ⟨pk_in (Y % 16) 12 (by omega), ?_⟩))⟩
        rw [qn_at (Y % 16) h3]
        exact qn_bAdd (l := X) rfl y2 hX (by omega) (hall _ (by omega)) qn_narm (br_t (by decide) (H _ _ _ _ ⟨rfl, pk_us, pk_us, pk_us, fin⟩))
      · refine qn_rd (qn_bk l X) k1 ⟨pk_in (qn_bk l X) 24 (by omega), qn_st (qn_bk l X) (w := -1) ⟨3, br_f (nI_pos (by omega)) ⟨pk_in (Y % 16) 12 (by omega), qn_rd (Y % 16) k2 (pk_eq (Y % 16) (X % 16) (fun z => absurd z y4') (fun _ => ⟨pk_in (Y % 16) 12 (by omega), ?_⟩))⟩⟩⟩
        rw [qn_at (Y % 16) h3]
        exact qn_bAdd (l := X) rfl y2 hX (by omega) (hall _ (by omega)) qn_narm (br_f (nI_pos (by omega)) ⟨pk_in (X % 16) 12 (by omega), qn_rd (v := -1) (X % 16) (by rw [pk_un y4]; exact k3) (br_t rfl (br_t (by decide) (H _ _ _ _ ⟨rfl, pk_us, pk_us, pk_us, fin⟩)))⟩)
    · obtain ⟨k1, k2, k3, k4⟩ := h4 e
      have hm := qn_bk_mono hl (Nat.le_of_lt y1)
      have hup : qn_bk X Y = qn_bk l Y := qn_bk_up (by omega)
      have e' : qn_bk l Y ≠ qn_bk l X := fun z => e z.symm
      refine qn_rd (qn_bk l X) k1 ⟨pk_in (qn_bk l X) 24 (by omega), qn_st (qn_bk l X) (w := -1) (qn_bT1 (by omega) k2 (H _ _ _ _ ⟨rfl, h3, k4, by rw [hup, pk_un e']; exact k3, fun b hb hn => ?_⟩))⟩
      by_cases e2 : b = qn_bk l X
      · rw [e2, pk_us]
      · rw [pk_un e2]
        exact h6 b hb e2 (by rw [← hup]; exact hn)
  | _ :: _ :: _, hlen, _, _, _ => exact absurd hlen (by simp)
end
section
/-! ===== the queue of events, whatever the engine ===== -/
/-- the list of events: sorted, at most two, of two customers, none before l -/
def qn_W (l : Nat) : List Nat → Prop
  | [] => l < 8192
  | [X] => l ≤ X ∧ X < 8192 ∧ X % 16 < 2
  | [X, Y] => l ≤ X ∧ X < Y ∧ Y < 8192 ∧ X % 16 < 2 ∧ Y % 16 < 2 ∧ X % 16 ≠ Y % 16
  | _ => False
def qn_Q (e l : Nat) (L : List Nat) (fe fp ft fr fl : Int32) (a20 a21 a22 a23 a24 a25 a26 a27 : Nat → Int32) : Prop :=
  fe = nI e ∧ fp = nI L.length ∧ qn_W l L ∧ (e = 0 → qn_H a20 L) ∧ (e = 1 → qn_C l ft a21 a22 a23 L) ∧ (e = 2 → qn_T fr a23 a24 a25 L) ∧ (e = 3 → qn_K l fl a22 a23 a27 L)
theorem qn_W_head {l X : Nat} {L : List Nat} (h : qn_W l (X :: L)) : l ≤ X ∧ X < 8192 ∧ X % 16 < 2 ∧ L.length ≤ 1 ∧ (∀ Y, Y ∈ L → X < Y ∧ Y < 8192 ∧ Y % 16 < 2 ∧ X % 16 ≠ Y % 16) ∧ qn_W X L := by
  match L, h with
  | [], h =>
    obtain ⟨h1, h2, h3⟩ := h
    exact ⟨h1, h2, h3, by simp, fun Y hY => absurd hY (by simp), h2⟩
  | [Y], h =>
    obtain ⟨h1, h2, h3, h4, h5, h6⟩ := h
    refine ⟨h1, by omega, h4, by simp, fun Z hZ => ?_, by omega, h3, h5⟩
    rw [List.mem_singleton] at hZ
    subst hZ
    exact ⟨h2, h3, h5, h6⟩
  | _ :: _ :: _, h => exact absurd h (fun z => z)
/-- an event more -/
def qn_ins (X : Nat) : List Nat → List Nat
  | [] => [X]
  | Y :: L => if X < Y then X :: Y :: L else Y :: X :: L
theorem qn_ins1 (X Y : Nat) : qn_ins X [Y] = if X < Y then [X, Y] else [Y, X] := rfl
/-- the new event's customer isn't in the list -/
def qn_new (X : Nat) : List Nat → Prop
  | [] => True
  | [Y] => X % 16 ≠ Y % 16
  | _ => False
theorem qn_add {post : St2 → Prop} {fc fg fe fp ft fr fl : Int32} {a1 a2 a3 a4 a5 a6 a7 a8 a9 a10 a11 a12 a13 a14 a15 a16 a17 a18 a19 a20 a21 a22 a23 a24 a25 a26 a27 : Nat → Int32} {e l X : Nat} {L : List Nat} (he : e < 4) (hQ : qn_Q e l L fe fp ft fr fl a20 a21 a22 a23 a24 a25 a26 a27) (hl : l ≤ X) (hX : X < 8192) (hc : X % 16 < 2) (hn : qn_new X L)
    (H : ∀ (fp' ft' fr' fl' : Int32) (a20' a21' a22' a23' a24' a25' a26' a27' : Nat → Int32), qn_Q e l (qn_ins X L) fe fp' ft' fr' fl' a20' a21' a22' a23' a24' a25' a26' a27' → post (fc, fg, fe, fp', ft', fr', fl', a1, a2, a3, a4, a5, a6, a7, a8, a9, a10, a11, a12, a13, a14, a15, a16, a17, a18, a19, a20', a21', a22', a23', a24', a25', a26', a27')) : wpX_addEvent post (fc, fg, fe, fp, ft, fr, fl, a1, a2, a3, a4, a5, a6, a7, a8, a9, a10, a11, a12, a13, a14, a15, a16, a17, a18, a19, a20, a21, a22, a23, a24, a25, a26, a27) (nI X) := by
  obtain ⟨q1, q2, q3, q4, q5, q6, q7⟩ := hQ
  subst q1
  match L, hn, q2, q3, q4, q5, q6, q7, H with
  | [], hn, q2, q3, q4, q5, q6, q7, H =>
    have w : qn_W l [X] := ⟨hl, hX, hc⟩
    have hf : fp + 1 = nI 1 := by rw [q2]; decide
    have e4 : e = 0 ∨ e = 1 ∨ e = 2 ∨ e = 3 := by omega
    rcases e4 with y | y | y | y
    · subst y
      exact br_f (by decide) (br_f (by decide) (br_t (by decide) (qn_hAdd0 q2 (fun a20' h => nm_r hf (H _ _ _ _ _ _ _ _ _ _ _ _ ⟨rfl, rfl, w, fun _ => h, fun z => absurd z (by omega), fun z => absurd z (by omega), fun z => absurd z (by omega)⟩)))))
    · subst y
      exact br_f (by decide) (br_f (by decide) (br_f (by decide) (br_t (by decide) (qn_cAdd0 hX hc (q5 rfl) (fun a21' a22' a23' h => nm_r hf (H _ _ _ _ _ _ _ _ _ _ _ _ ⟨rfl, rfl, w, fun z => absurd z (by omega), fun _ => h, fun z => absurd z (by omega), fun z => absurd z (by omega)⟩))))))
    · subst y
      exact br_f (by decide) (br_f (by decide) (br_f (by decide) (br_f (by decide) (br_t (by decide) (qn_tAdd0 hX hc (q6 rfl) (fun fr' a23' a24' a25' h => nm_r hf (H _ _ _ _ _ _ _ _ _ _ _ _ ⟨rfl, rfl, w, fun z => absurd z (by omega), fun z => absurd z (by omega), fun _ => h, fun z => absurd z (by omega)⟩)))))))
    · subst y
      exact br_f (by decide) (br_t (by decide) (qn_bAdd0 hX hl hc (q7 rfl) (fun a22' a23' a27' h => nm_r hf (H _ _ _ _ _ _ _ _ _ _ _ _ ⟨rfl, rfl, w, fun z => absurd z (by omega), fun z => absurd z (by omega), fun z => absurd z (by omega), fun _ => h⟩))))
  | [Y], hn, q2, q3, q4, q5, q6, q7, H =>
    obtain ⟨w1, w2, w3⟩ := q3
    have hn' : X % 16 ≠ Y % 16 := hn
    have hf : fp + 1 = nI 2 := by rw [q2]; exact nI_1 1
    have hXY : X ≠ Y := fun z => hn' (by rw [z])
    have e4 : e = 0 ∨ e = 1 ∨ e = 2 ∨ e = 3 := by omega
    have hlen : (qn_ins X [Y]).length = 2 := by rw [qn_ins1]; split <;> rfl
    have w : qn_W l (qn_ins X [Y]) := by
      rw [qn_ins1]
      split
      · exact ⟨hl, by omega, w2, hc, w3, hn'⟩
      · exact ⟨w1, by omega, hX, w3, hc, fun z => hn' z.symm⟩
    have sel : ∀ P : List Nat → Prop, (X < Y → P [X, Y]) → (Y < X → P [Y, X]) → P (qn_ins X [Y]) := by
      intro P h1 h2
      rw [qn_ins1]
      split
      · exact h1 (by omega)
      · exact h2 (by omega)
    rcases e4 with y | y | y | y
    · subst y
      exact br_f (by decide) (br_f (by decide) (br_t (by decide) (qn_hAdd1 q2 (q4 rfl) hX w2 (fun a20' h1 h2 => nm_r hf (H _ _ _ _ _ _ _ _ _ _ _ _ ⟨rfl, by rw [hlen], w, fun _ => sel (qn_H a20') h1 (fun z => h2 (by omega)), fun z => absurd z (by omega), fun z => absurd z (by omega), fun z => absurd z (by omega)⟩)))))
    · subst y
      exact br_f (by decide) (br_f (by decide) (br_f (by decide) (br_t (by decide) (qn_cAdd1 hX w2 hc w3 hn' (q5 rfl) (fun a21' a22' a23' h1 h2 => nm_r hf (H _ _ _ _ _ _ _ _ _ _ _ _ ⟨rfl, by rw [hlen], w, fun z => absurd z (by omega), fun _ => sel (qn_C l ft a21' a22' a23') h1 h2, fun z => absurd z (by omega), fun z => absurd z (by omega)⟩))))))
    · subst y
      exact br_f (by decide) (br_f (by decide) (br_f (by decide) (br_f (by decide) (br_t (by decide) (qn_tAdd1 hX w2 hc w3 hn' (q6 rfl) (fun fr' a23' a24' a25' h1 h2 => nm_r hf (H _ _ _ _ _ _ _ _ _ _ _ _ ⟨rfl, by rw [hlen], w, fun z => absurd z (by omega), fun z => absurd z (by omega), fun _ => sel (qn_T fr' a23' a24' a25') h1 h2, fun z => absurd z (by omega)⟩)))))))
    · subst y
      exact br_f (by decide) (br_t (by decide) (qn_bAdd1 hX hl w2 hc w3 hn' (q7 rfl) (fun a22' a23' a27' h1 h2 => nm_r hf (H _ _ _ _ _ _ _ _ _ _ _ _ ⟨rfl, by rw [hlen], w, fun z => absurd z (by omega), fun z => absurd z (by omega), fun z => absurd z (by omega), fun _ => sel (qn_K l fl a22' a23' a27') h1 h2⟩))))
  | _ :: _ :: _, hn, _, _, _, _, _, _, _ => exact absurd hn (fun z => z)
theorem qn_next {post : Int32 → Prop} {fc fg fe fp ft fr fl : Int32} {a1 a2 a3 a4 a5 a6 a7 a8 a9 a10 a11 a12 a13 a14 a15 a16 a17 a18 a19 a20 a21 a22 a23 a24 a25 a26 a27 : Nat → Int32} {e l X : Nat} {L : List Nat} (he : e < 4) (hQ : qn_Q e l (X :: L) fe fp ft fr fl a20 a21 a22 a23 a24 a25 a26 a27) (H : post (nI (X / 32))) : wpX_nextTime post (fc, fg, fe, fp, ft, fr, fl, a1, a2, a3, a4, a5, a6, a7, a8, a9, a10, a11, a12, a13, a14, a15, a16, a17, a18, a19, a20, a21, a22, a23, a24, a25, a26, a27) := by
  obtain ⟨q1, q2, q3, q4, q5, q6, q7⟩ := hQ
  subst q1
  obtain ⟨w1, w2, w3, w4, w5, w6⟩ := qn_W_head q3
  have hd : ∀ v : Int32, v = nI X → post (v / 32) := by
    intro v hv
    rw [hv, qn_div32 (by omega)]
    exact H
  have e4 : e = 0 ∨ e = 1 ∨ e = 2 ∨ e = 3 := by omega
  rcases e4 with y | y | y | y
  · subst y
    have h0 : a20 0 = nI X := by
      have := q4 rfl
      match L, this with
      | [], h => exact h
      | _ :: _, h => exact h.1
    exact br_t (by decide) ⟨by decide, hd _ h0⟩
  · subst y
    obtain ⟨g1, g2, g3, g4⟩ := qn_cCD ⟨w3, w2⟩ (fun Y hY => ⟨(w5 Y hY).1, (w5 Y hY).2.1, (w5 Y hY).2.2.1⟩) (q5 rfl)
    exact br_f (by decide) (br_t (by decide) (qn_cNext g1 (by omega) w2 (by omega) g2 g3 g4 ⟨pk_in (X % 16) 12 (by omega), by decide, hd _ (qn_at (X % 16) g3)⟩))
  · subst y
    have h0 : fr = nI (X % 16) ∧ a23 (X % 16) = nI X := by
      have := q6 rfl
      match L, this with
      | [], h => exact ⟨h.1, h.2.1⟩
      | _ :: _, h => exact ⟨h.1, h.2.1⟩
    exact br_f (by decide) (br_f (by decide) (br_f (by decide) ⟨pk_in (X % 16) 12 (by omega) h0.1, by decide, hd _ (qn_at (X % 16) h0.2 h0.1)⟩))
  · subst y
    obtain ⟨g1, g2, g3, g4, c, g5, g6⟩ := qn_kBL w2 w1 w5 (q7 rfl)
    have hb := qn_bk_13 (l := l) (X := X) (by omega) w2
    exact br_f (by decide) (br_f (by decide) (br_t (by decide) (qn_bNext w2 w3 w1 w5 (q7 rfl) (qn_lO (by omega) (by omega) w2 g2 g3 ⟨pk_in (X % 16) 12 (by omega), by decide, hd _ (qn_at (X % 16) g2)⟩))))
theorem qn_take {post : Int32 → St2 → Prop} {fc fg fe fp ft fr fl : Int32} {a1 a2 a3 a4 a5 a6 a7 a8 a9 a10 a11 a12 a13 a14 a15 a16 a17 a18 a19 a20 a21 a22 a23 a24 a25 a26 a27 : Nat → Int32} {e l X : Nat} {L : List Nat} (he : e < 4) (hQ : qn_Q e l (X :: L) fe fp ft fr fl a20 a21 a22 a23 a24 a25 a26 a27)
    (H : ∀ (fp' ft' fr' fl' : Int32) (a20' a21' a22' a23' a24' a25' a26' a27' : Nat → Int32), qn_Q e X L fe fp' ft' fr' fl' a20' a21' a22' a23' a24' a25' a26' a27' → post (nI X) (fc, fg, fe, fp', ft', fr', fl', a1, a2, a3, a4, a5, a6, a7, a8, a9, a10, a11, a12, a13, a14, a15, a16, a17, a18, a19, a20', a21', a22', a23', a24', a25', a26', a27')) : wpX_takeEvent post (fc, fg, fe, fp, ft, fr, fl, a1, a2, a3, a4, a5, a6, a7, a8, a9, a10, a11, a12, a13, a14, a15, a16, a17, a18, a19, a20, a21, a22, a23, a24, a25, a26, a27) := by
  obtain ⟨q1, q2, q3, q4, q5, q6, q7⟩ := hQ
  subst q1
  obtain ⟨w1, w2, w3, w4, w5, w6⟩ := qn_W_head q3
  have hf : fp - 1 = nI L.length := by
    rw [q2, List.length_cons]
    exact nI_pred _
  have e4 : e = 0 ∨ e = 1 ∨ e = 2 ∨ e = 3 := by omega
  rcases e4 with y | y | y | y
  · subst y
    have h0 : ∃ Z, a20 0 = nI X ∧ a20 L.length = nI Z ∧ ∀ g : Nat → Int32, g 0 = nI Z → qn_H g L := by
      have := q4 rfl
      match L, w4, this with
      | [], _, h => exact ⟨X, h, h, fun _ _ => trivial⟩
      | [Y], _, h => exact ⟨Y, h.1, h.2, fun g hg => hg⟩
      | _ :: _ :: _, w4, _ => exact absurd w4 (by simp)
    obtain ⟨Z, z1, z2, z3⟩ := h0
    exact br_f (by decide) (br_f (by decide) (br_t (by decide) (qn_hTake (k := L.length) (by omega) (by rw [q2, List.length_cons]) z1 z2 (fun a20' h => nm_r hf (H _ _ _ _ _ _ _ _ _ _ _ _ ⟨rfl, rfl, w6, fun _ => z3 _ h, fun z => absurd z (by omega), fun z => absurd z (by omega), fun z => absurd z (by omega)⟩)))))
  · subst y
    exact br_f (by decide) (br_f (by decide) (br_f (by decide) (br_t (by decide) (qn_cTake w2 w3 w1 w4 w5 (q5 rfl) (fun ft' a21' h => nm_r hf (H _ _ _ _ _ _ _ _ _ _ _ _ ⟨rfl, rfl, w6, fun z => absurd z (by omega), fun _ => h, fun z => absurd z (by omega), fun z => absurd z (by omega)⟩))))))
  · subst y
    exact br_f (by decide) (br_f (by decide) (br_f (by decide) (br_f (by decide) (br_t (by decide) (qn_tTake w2 w3 w4 w5 (q6 rfl) (fun fr' a25' a26' h => nm_r hf (H _ _ _ _ _ _ _ _ _ _ _ _ ⟨rfl, rfl, w6, fun z => absurd z (by omega), fun z => absurd z (by omega), fun _ => h, fun z => absurd z (by omega)⟩)))))))
  · subst y
    exact br_f (by decide) (br_t (by decide) (qn_bTake w2 w3 w1 w4 w5 (q7 rfl) (fun fl' a22' a23' a27' h => nm_r hf (H _ _ _ _ _ _ _ _ _ _ _ _ ⟨rfl, rfl, w6, fun z => absurd z (by omega), fun z => absurd z (by omega), fun z => absurd z (by omega), fun _ => h⟩))))
theorem qn_fill {s : Nat → Int32} {i k : Nat} {x : Int32} (hk : k = i) (h : ∀ j, j < i → s j = x) : ∀ j, j < i + 1 → upd s k x j = x := by
  intro j hj
  rw [hk]
  by_cases e : j = i
  · rw [e, pk_us]
  · rw [pk_un e]
    exact h j (by omega)
theorem qn_sQ43 {post : St2 → Prop} {fc fg fe fp ft fr fl : Int32} {a1 a2 a3 a4 a5 a6 a7 a8 a9 a10 a11 a12 a13 a14 a15 a16 a17 a18 a19 a20 a21 a22 a23 a24 a25 a26 a27 : Nat → Int32} (H : ∀ a27' : Nat → Int32, (∀ j, j < 24 → a27' j = -1) → post (fc, fg, fe, fp, ft, fr, fl, a1, a2, a3, a4, a5, a6, a7, a8, a9, a10, a11, a12, a13, a14, a15, a16, a17, a18, a19, a20, a21, a22, a23, a24, a25, a26, a27')) : ∃ n, wX_startQueue_43 post fc fg fe fp ft fr fl n 0 a1 a2 a3 a4 a5 a6 a7 a8 a9 a10 a11 a12 a13 a14 a15 a16 a17 a18 a19 a20 a21 a22 a23 a24 a25 a26 a27 :=
  pk_loop (fun n i s => wX_startQueue_43 post fc fg fe fp ft fr fl n (nI i) a1 a2 a3 a4 a5 a6 a7 a8 a9 a10 a11 a12 a13 a14 a15 a16 a17 a18 a19 a20 a21 a22 a23 a24 a25 a26 s) (fun i s => ∀ j, j < i → s j = -1) 24 0 a27 (by omega) (fun j hj => absurd hj (by omega))
    (fun n s h => pk_le 24 24 (fun _ => H s h) (fun z => absurd z (by omega)))
    (fun n i s hi h hw => pk_le 24 i (fun z => absurd z (by omega)) (fun _ => ⟨pk_in i 24 hi, qn_st i (nm_r (nI_1 i) (hw _ (qn_fill rfl h)))⟩))
theorem qn_sQ {post : St2 → Prop} {fc fg fe fp ft fr fl : Int32} {a1 a2 a3 a4 a5 a6 a7 a8 a9 a10 a11 a12 a13 a14 a15 a16 a17 a18 a19 a20 a21 a22 a23 a24 a25 a26 a27 : Nat → Int32} {e : Nat} (hfe : fe = nI e) (H : ∀ (fp' ft' fr' fl' : Int32) (a20' a21' a22' a23' a24' a25' a26' a27' : Nat → Int32), qn_Q e 0 [] fe fp' ft' fr' fl' a20' a21' a22' a23' a24' a25' a26' a27' → post (fc, fg, fe, fp', ft', fr', fl', a1, a2, a3, a4, a5, a6, a7, a8, a9, a10, a11, a12, a13, a14, a15, a16, a17, a18, a19, a20', a21', a22', a23', a24', a25', a26', a27')) : wpX_startQueue post (fc, fg, fe, fp, ft, fr, fl, a1, a2, a3, a4, a5, a6, a7, a8, a9, a10, a11, a12, a13, a14, a15, a16, a17, a18, a19, a20, a21, a22, a23, a24, a25, a26, a27) := by
  unfold wpX_startQueue
  refine pk_loop (fun n i s => wX_startQueue_22 post fc fg fe 0 0 (-1) 0 n (nI i) a1 a2 a3 a4 a5 a6 a7 a8 a9 a10 a11 a12 a13 a14 a15 a16 a17 a18 a19 a20 s a22 a23 a24 a25 a26 a27) (fun i s => ∀ j, j < i → s j = -1) 16 0 a21 (by omega) (fun j hj => absurd hj (by omega))
    (fun n s h => pk_le 16 16 (fun _ => qn_sQ43 (fun a27' h2 => H _ _ _ _ _ _ _ _ _ _ _ _ ⟨hfe, rfl, ?_, fun _ => trivial, fun _ => ⟨rfl, h⟩, fun _ => rfl, fun _ => ⟨rfl, h2⟩⟩)) (fun z => absurd z (by omega)))
    (fun n i s hi h hw => pk_le 16 i (fun z => absurd z (by omega)) (fun _ => ⟨pk_in i 16 hi, qn_st i (nm_r (nI_1 i) (hw _ (qn_fill rfl h)))⟩))
  exact (by omega : (0 : Nat) < 8192)
end
section
/-! ===== a run's steps ===== -/
/-- what a run doesn't change: station s with rule r and one server; A: when the two arrive, N: what they need -/
def qn_KK (s r : Nat) (A N : Nat → Nat) (fc : Int32) (a1 a2 a3 a4 a5 a6 : Nat → Int32) : Prop :=
  s < 4 ∧ r < 3 ∧ fc = nI 2 ∧ (∀ i, i < 4 → a1 i = nI 1) ∧ a2 s = nI r ∧
    ∀ i, i < 2 → A i ≤ 100 ∧ 1 ≤ N i ∧ N i ≤ 30 ∧ a3 i = nI (A i) ∧ a4 i = nI 1 ∧ a5 (4 * i) = nI s ∧ a6 (4 * i) = nI (N i)
theorem qn_c4 {c : Nat} {v : Int32} (hv : v = nI 0) : nI c * 4 + v = nI (4 * c) := by
  rw [hv, show (4 : Int32) = nI 4 from rfl, pk_mul, nI_add]
  congr 1
  omega
theorem qn_or : ∀ W, W < 4 → ∀ c, c < 2 → nI W ||| ((1 : Int32) <<< (nI c &&& 31)) = nI (W ||| 2 ^ c) := by decide +kernel
theorem qn_clr : ∀ W, W < 4 → ∀ c, c < 2 → nI W &&& (((1 : Int32) <<< (nI c &&& 31)) ^^^ (-1)) = nI (W &&& (3 - 2 ^ c)) := by decide +kernel
theorem qn_inc : ∀ n, n < 100 → (nI n + 1).toInt8.toInt32 = nI (n + 1) := by decide +kernel
theorem qn_dec1 : (nI 1 - 1).toInt8.toInt32 = nI 0 := by decide +kernel
theorem qn_note {post : St2 → Prop} {fc fg fe fp ft fr fl : Int32} {a1 a2 a3 a4 a5 a6 a7 a8 a9 a10 a11 a12 a13 a14 a15 a16 a17 a18 a19 a20 a21 a22 a23 a24 a25 a26 a27 : Nat → Int32} {g : Nat} {p0 p1 p2 p3 : Int32} (hg : fg = nI g) (hg2 : g < 160)
    (H : ∀ a13' a14' a15' a16' : Nat → Int32, post (fc, nI (g + 1), fe, fp, ft, fr, fl, a1, a2, a3, a4, a5, a6, a7, a8, a9, a10, a11, a12, a13', a14', a15', a16', a17, a18, a19, a20, a21, a22, a23, a24, a25, a26, a27)) : wpX_note post (fc, fg, fe, fp, ft, fr, fl, a1, a2, a3, a4, a5, a6, a7, a8, a9, a10, a11, a12, a13, a14, a15, a16, a17, a18, a19, a20, a21, a22, a23, a24, a25, a26, a27) p0 p1 p2 p3 :=
  ⟨pk_in g 160 hg2 hg, nm_e ⟨pk_in g 160 hg2 hg, nm_e ⟨pk_in g 160 hg2 hg, nm_e ⟨pk_in g 160 hg2 hg, nm_e (nm_r (by rw [hg]; exact nI_1 g) (H _ _ _ _))⟩⟩⟩⟩
/-- a customer joins its station -/
theorem qn_join {post : St2 → Prop} {fc fg fe fp ft fr fl : Int32} {a1 a2 a3 a4 a5 a6 a7 a8 a9 a10 a11 a12 a13 a14 a15 a16 a17 a18 a19 a20 a21 a22 a23 a24 a25 a26 a27 : Nat → Int32} {s r c t g W W' : Nat} {A N : Nat → Nat} (hK : qn_KK s r A N fc a1 a2 a3 a4 a5 a6) (hc : c < 2) (hv : a17 c = nI 0) (hW : a18 s = nI W) (hW4 : W < 4) (hW' : W ||| 2 ^ c = W') (hg : fg = nI g) (hg2 : g < 160)
    (H : ∀ a13' a14' a15' a16' : Nat → Int32, post (fc, nI (g + 1), fe, fp, ft, fr, fl, a1, a2, a3, a4, a5, a6, upd a7 (4 * c) (nI t), a8, a9, a10, a11, a12, a13', a14', a15', a16', a17, upd a18 s (nI W'), a19, a20, a21, a22, a23, a24, a25, a26, a27)) : wpX_goOn post (fc, fg, fe, fp, ft, fr, fl, a1, a2, a3, a4, a5, a6, a7, a8, a9, a10, a11, a12, a13, a14, a15, a16, a17, a18, a19, a20, a21, a22, a23, a24, a25, a26, a27) (nI c) (nI t) := by
  obtain ⟨k1, k2, k3, k4, k5, k6⟩ := hK
  obtain ⟨m1, m2, m3, m4, m5, m6, m7⟩ := k6 c hc
  subst hW'
  refine ⟨pk_in c 12 (by omega), pk_in c 12 (by omega), pk_lt 0 1 (fun _ => ⟨pk_in c 12 (by omega), nm_r (qn_c4 (qn_at c hv)) ⟨pk_in (4 * c) 48 (by omega), qn_st (4 * c) ⟨pk_in (4 * c) 48 (by omega), qn_rd (4 * c) m6 ⟨pk_in s 4 k1, pk_in s 4 k1, qn_st s (w := nI (W ||| 2 ^ c)) ?_ (hv := ?_)⟩⟩⟩⟩) (fun z => absurd z (by omega)) (qn_at c hv) (qn_at c m5)⟩
  · exact qn_note hg hg2 H
  · rw [qn_at s hW]
    exact qn_or W hW4 c hc
/-- a customer leaves for good -/
theorem qn_gone {post : St2 → Prop} {fc fg fe fp ft fr fl : Int32} {a1 a2 a3 a4 a5 a6 a7 a8 a9 a10 a11 a12 a13 a14 a15 a16 a17 a18 a19 a20 a21 a22 a23 a24 a25 a26 a27 : Nat → Int32} {s r c t : Nat} {A N : Nat → Nat} (hK : qn_KK s r A N fc a1 a2 a3 a4 a5 a6) (hc : c < 2) (hv : a17 c = nI 1)
    (H : post (fc, fg, fe, fp, ft, fr, fl, a1, a2, a3, a4, a5, a6, a7, a8, upd a9 c (nI t), a10, a11, a12, a13, a14, a15, a16, a17, a18, a19, a20, a21, a22, a23, a24, a25, a26, a27)) : wpX_goOn post (fc, fg, fe, fp, ft, fr, fl, a1, a2, a3, a4, a5, a6, a7, a8, a9, a10, a11, a12, a13, a14, a15, a16, a17, a18, a19, a20, a21, a22, a23, a24, a25, a26, a27) (nI c) (nI t) := by
  obtain ⟨k1, k2, k3, k4, k5, k6⟩ := hK
  obtain ⟨m1, m2, m3, m4, m5, m6, m7⟩ := k6 c hc
  exact ⟨pk_in c 12 (by omega), pk_in c 12 (by omega), pk_lt 1 1 (fun z => absurd z (by omega)) (fun _ => ⟨pk_in c 12 (by omega), qn_st c H⟩) (qn_at c hv) (qn_at c m5)⟩
/-- a service ends -/
theorem qn_fin {post : St2 → Prop} {fc fg fe fp ft fr fl : Int32} {a1 a2 a3 a4 a5 a6 a7 a8 a9 a10 a11 a12 a13 a14 a15 a16 a17 a18 a19 a20 a21 a22 a23 a24 a25 a26 a27 : Nat → Int32} {s r c t g : Nat} {A N : Nat → Nat} (hK : qn_KK s r A N fc a1 a2 a3 a4 a5 a6) (hc : c < 2) (hv : a17 c = nI 0) (hF : a19 s = nI 0) (hg : fg = nI g) (hg2 : g < 160)
    (H : ∀ a13' a14' a15' a16' : Nat → Int32, post (fc, nI (g + 1), fe, fp, ft, fr, fl, a1, a2, a3, a4, a5, a6, a7, a8, upd a9 c (nI t), a10, a11, a12, a13', a14', a15', a16', upd a17 c (nI 1), a18, upd a19 s (nI 1), a20, a21, a22, a23, a24, a25, a26, a27)) : wpX_finish post (fc, fg, fe, fp, ft, fr, fl, a1, a2, a3, a4, a5, a6, a7, a8, a9, a10, a11, a12, a13, a14, a15, a16, a17, a18, a19, a20, a21, a22, a23, a24, a25, a26, a27) (nI c) (nI t) := by
  have hK' := hK
  obtain ⟨k1, k2, k3, k4, k5, k6⟩ := hK
  obtain ⟨m1, m2, m3, m4, m5, m6, m7⟩ := k6 c hc
  have h4 : nI c * 4 + a17 (nI c).toNatClampNeg = nI (4 * c) := qn_c4 (qn_at c hv)
  refine ⟨pk_in c 12 (by omega), pk_in (4 * c) 48 (by omega) h4, qn_rd (4 * c) m6 ⟨pk_in s 4 k1, pk_in s 4 k1, qn_st s (w := nI 1) ?_ (hv := by rw [qn_at s hF]; exact qn_inc 0 (by omega))⟩ h4⟩
  refine qn_note hg hg2 (fun a13' a14' a15' a16' => ⟨pk_in c 12 (by omega), pk_in c 12 (by omega), qn_st c (w := nI 1) ?_ (hv := by rw [qn_at c hv]; exact qn_inc 0 (by omega))⟩)
  exact qn_gone hK' hc pk_us (H a13' a14' a15' a16')
theorem qn_hA {post : St2 → Prop} {fc fg fe fp ft fr fl : Int32} {a1 a2 a3 a4 a5 a6 a7 a8 a9 a10 a11 a12 a13 a14 a15 a16 a17 a18 a19 a20 a21 a22 a23 a24 a25 a26 a27 : Nat → Int32} {c t : Nat} (hc : c < 2) (ht : t < 200) (H : wpX_goOn post (fc, fg, fe, fp, ft, fr, fl, a1, a2, a3, a4, a5, a6, a7, a8, a9, a10, a11, a12, a13, a14, a15, a16, a17, a18, a19, a20, a21, a22, a23, a24, a25, a26, a27) (nI c) (nI t)) : wpX_handle post (fc, fg, fe, fp, ft, fr, fl, a1, a2, a3, a4, a5, a6, a7, a8, a9, a10, a11, a12, a13, a14, a15, a16, a17, a18, a19, a20, a21, a22, a23, a24, a25, a26, a27) (nI (32 * t + 16 + c)) (nI t) := by
  have e1 : (32 * t + 16 + c) % 16 = c := by omega
  have e2 : (32 * t + 16 + c) % 32 = 16 + c := by omega
  unfold wpX_handle
  refine qn_cust (by omega) ⟨by decide, ?_⟩
  rw [e1]
  exact pk_lt (16 + c) 16 (fun z => absurd z (by omega)) (fun _ => H) (by rw [qn_rem32 (by omega), e2])
theorem qn_hE {post : St2 → Prop} {fc fg fe fp ft fr fl : Int32} {a1 a2 a3 a4 a5 a6 a7 a8 a9 a10 a11 a12 a13 a14 a15 a16 a17 a18 a19 a20 a21 a22 a23 a24 a25 a26 a27 : Nat → Int32} {c t : Nat} (hc : c < 2) (ht : t < 200) (H : wpX_finish post (fc, fg, fe, fp, ft, fr, fl, a1, a2, a3, a4, a5, a6, a7, a8, a9, a10, a11, a12, a13, a14, a15, a16, a17, a18, a19, a20, a21, a22, a23, a24, a25, a26, a27) (nI c) (nI t)) : wpX_handle post (fc, fg, fe, fp, ft, fr, fl, a1, a2, a3, a4, a5, a6, a7, a8, a9, a10, a11, a12, a13, a14, a15, a16, a17, a18, a19, a20, a21, a22, a23, a24, a25, a26, a27) (nI (32 * t + c)) (nI t) := by
  have e1 : (32 * t + c) % 16 = c := by omega
  have e2 : (32 * t + c) % 32 = c := by omega
  unfold wpX_handle
  refine qn_cust (by omega) ⟨by decide, ?_⟩
  rw [e1]
  exact pk_lt c 16 (fun _ => H) (fun z => absurd z (by omega)) (by rw [qn_rem32 (by omega), e2])
/-! ===== who is served ===== -/
theorem qn_bit0 : ∀ W, W < 4 → ∀ i, i < 12 → ((nI W >>> (nI i &&& 31)) &&& 1) = nI (W / 2 ^ i % 2) := by decide +kernel
theorem qn_chT {post : Int32 → Prop} {fc fg fe fp ft fr fl : Int32} {a1 a2 a3 a4 a5 a6 a7 a8 a9 a10 a11 a12 a13 a14 a15 a16 a17 a18 a19 a20 a21 a22 a23 a24 a25 a26 a27 : Nat → Int32} {s W : Nat} {b : Int32} (hs : s < 4) (hW4 : W < 4) (hW : a18 s = nI W) (H : post b) : ∀ k i, i + k = 12 → 2 ≤ i → wX_choose_4 post (nI s) fc fg fe fp ft fr fl a1 a2 a3 a4 a5 a6 a7 a8 a9 a10 a11 a12 a13 a14 a15 a16 a17 a18 a19 a20 a21 a22 a23 a24 a25 a26 a27 (k + 1) b (nI i) := by
  intro k
  induction k with
  | zero =>
    intro i h1 h2
    exact pk_le 12 i (fun _ => H) (fun z => absurd z (by omega))
  | succ k ih =>
    intro i h1 h2
    refine pk_le 12 i (fun z => absurd z (by omega)) (fun _ => ⟨pk_in s 4 hs, br_t ?_ (nm_r (nI_1 i) (ih (i + 1) (by omega) (by omega)))⟩)
    rw [qn_at s hW, qn_bit0 W hW4 i (by omega)]
    have h3 : W < 2 ^ i := Nat.lt_of_lt_of_le hW4 (Nat.pow_le_pow_right (n := 2) (by omega) h2)
    rw [Nat.div_eq_of_lt h3]
    rfl
/-- one waits -/
theorem qn_ch1 {post : Int32 → Prop} {fc fg fe fp ft fr fl : Int32} {a1 a2 a3 a4 a5 a6 a7 a8 a9 a10 a11 a12 a13 a14 a15 a16 a17 a18 a19 a20 a21 a22 a23 a24 a25 a26 a27 : Nat → Int32} {s c : Nat} (hs : s < 4) (hc : c < 2) (hW : a18 s = nI (2 ^ c)) (H : post (nI c)) : wpX_choose post (fc, fg, fe, fp, ft, fr, fl, a1, a2, a3, a4, a5, a6, a7, a8, a9, a10, a11, a12, a13, a14, a15, a16, a17, a18, a19, a20, a21, a22, a23, a24, a25, a26, a27) (nI s) := by
  have e2 : c = 0 ∨ c = 1 := by omega
  rcases e2 with y | y
  · subst y
    refine ⟨13, br_f (by decide) ⟨pk_in s 4 hs, br_f ?_ (br_t (by decide) (nm_r (e' := nI 1) (by decide) ?_))⟩⟩
    · rw [qn_at s hW]
      decide
    · refine br_f (by decide) ⟨pk_in s 4 hs, br_t ?_ (nm_r (e' := nI 2) (by decide) (qn_chT hs (W := 1) (by omega) hW H 10 2 (by omega) (by omega)))⟩
      rw [qn_at s hW]
      decide
  · subst y
    refine ⟨13, br_f (by decide) ⟨pk_in s 4 hs, br_t ?_ (nm_r (e' := nI 1) (by decide) ?_)⟩⟩
    · rw [qn_at s hW]
      decide
    · refine br_f (by decide) ⟨pk_in s 4 hs, br_f ?_ (br_t (by decide) (nm_r (e' := nI 2) (by decide) (qn_chT hs (W := 2) (by omega) hW H 10 2 (by omega) (by omega))))⟩
      rw [qn_at s hW]
      decide
/-- both wait, since the same time: who is served first -/
def qn_fst (r : Nat) (N : Nat → Nat) : Nat := if r = 1 ∨ (r = 2 ∧ N 1 < N 0) then 1 else 0
theorem qn_bef {post : Int32 → Prop} {fc fg fe fp ft fr fl : Int32} {a1 a2 a3 a4 a5 a6 a7 a8 a9 a10 a11 a12 a13 a14 a15 a16 a17 a18 a19 a20 a21 a22 a23 a24 a25 a26 a27 : Nat → Int32} {s r t : Nat} {A N : Nat → Nat} (hK : qn_KK s r A N fc a1 a2 a3 a4 a5 a6) (ht : t < 200) (hv0 : a17 0 = nI 0) (hv1 : a17 1 = nI 0) (h0 : a7 0 = nI t) (h4 : a7 4 = nI t)
    (H : post (nI (qn_fst r N))) : wpX_isBefore post (fc, fg, fe, fp, ft, fr, fl, a1, a2, a3, a4, a5, a6, a7, a8, a9, a10, a11, a12, a13, a14, a15, a16, a17, a18, a19, a20, a21, a22, a23, a24, a25, a26, a27) (nI 1) (nI 0) (nI r) := by
  obtain ⟨k1, k2, k3, k4, k5, k6⟩ := hK
  obtain ⟨m1, m2, m3, m4, m5, m6, m7⟩ := k6 0 (by omega)
  obtain ⟨n1, n2, n3, n4, n5, n6, n7⟩ := k6 1 (by omega)
  have f97 : qn_fst r N = 0 → wX_isBefore_97 post (nI 4) (nI 0) fc fg fe fp ft fr fl a1 a2 a3 a4 a5 a6 a7 a8 a9 a10 a11 a12 a13 a14 a15 a16 a17 a18 a19 a20 a21 a22 a23 a24 a25 a26 a27 := by
    intro e
    rw [e] at H
    exact ⟨pk_in 4 48 (by omega), pk_in 0 48 (by omega), pk_le t t (fun _ => H) (fun z => absurd z (by omega)) (qn_at 0 h0) (qn_at 4 h4)⟩
  refine ⟨pk_in 1 12 (by omega), nm_r (e' := nI 4) (qn_c4 (c := 1) (qn_at 1 hv1)) ⟨pk_in 0 12 (by omega), nm_r (e' := nI 0) (qn_c4 (c := 0) (qn_at 0 hv0)) (pk_eq r 1 (fun y => ?_) (fun y => pk_eq r 2 (fun y2 => ?_) (fun y2 => ?_)))⟩⟩
  · have e : qn_fst r N = 1 := by unfold qn_fst; rw [if_pos (Or.inl y)]
    rw [e] at H
    exact ⟨pk_in 4 48 (by omega), pk_in 0 48 (by omega), pk_lt t t (fun z => absurd z (by omega)) (fun _ => H) (qn_at 4 h4) (qn_at 0 h0)⟩
  · refine ⟨pk_in 4 48 (by omega), pk_in 0 48 (by omega), pk_eq (N 1) (N 0) (fun z => f97 ?_) (fun z => ⟨pk_in 4 48 (by omega), pk_in 0 48 (by omega), pk_le (N 0) (N 1) (fun z2 => ?_) (fun z2 => ?_) (qn_at 0 m7) (qn_at 4 n7)⟩) (qn_at 4 n7) (qn_at 0 m7)⟩
    · unfold qn_fst
      rw [if_neg]
      omega
    · have e : qn_fst r N = 0 := by
        unfold qn_fst
        rw [if_neg]
        omega
      rw [e] at H
      exact H
    · have e : qn_fst r N = 1 := by
        unfold qn_fst
        rw [if_pos]
        omega
      rw [e] at H
      exact H
  · refine f97 ?_
    unfold qn_fst
    rw [if_neg]
    omega
theorem qn_ch3 {post : Int32 → Prop} {fc fg fe fp ft fr fl : Int32} {a1 a2 a3 a4 a5 a6 a7 a8 a9 a10 a11 a12 a13 a14 a15 a16 a17 a18 a19 a20 a21 a22 a23 a24 a25 a26 a27 : Nat → Int32} {s r t : Nat} {A N : Nat → Nat} (hK : qn_KK s r A N fc a1 a2 a3 a4 a5 a6) (ht : t < 200) (hv0 : a17 0 = nI 0) (hv1 : a17 1 = nI 0) (h0 : a7 0 = nI t) (h4 : a7 4 = nI t) (hW : a18 s = nI 3)
    (H : post (nI (qn_fst r N))) : wpX_choose post (fc, fg, fe, fp, ft, fr, fl, a1, a2, a3, a4, a5, a6, a7, a8, a9, a10, a11, a12, a13, a14, a15, a16, a17, a18, a19, a20, a21, a22, a23, a24, a25, a26, a27) (nI s) := by
  have hs : s < 4 := hK.1
  have hr : a2 s = nI r := hK.2.2.2.2.1
  refine ⟨13, br_f (by decide) ⟨pk_in s 4 hs, br_f ?_ (br_t (by decide) (nm_r (e' := nI 1) (by decide) ?_))⟩⟩
  · rw [qn_at s hW]
    decide
  · refine br_f (by decide) ⟨pk_in s 4 hs, br_f ?_ (br_f (by decide) ⟨pk_in s 4 hs, ?_⟩)⟩
    · rw [qn_at s hW]
      decide
    · rw [qn_at s hr]
      refine qn_bef hK ht hv0 hv1 h0 h4 ?_
      have e2 : qn_fst r N = 0 ∨ qn_fst r N = 1 := by
        unfold qn_fst
        split
        · exact Or.inr rfl
        · exact Or.inl rfl
      rcases e2 with y | y
      · rw [y] at H
        rw [y]
        exact br_t rfl (nm_r (e' := nI 2) (by decide) (qn_chT hs (W := 3) (by omega) hW H 10 2 (by omega) (by omega)))
      · rw [y] at H
        rw [y]
        exact br_f (by decide) (nm_r (e' := nI 2) (by decide) (qn_chT hs (W := 3) (by omega) hW H 10 2 (by omega) (by omega)))
/-! ===== serving ===== -/
theorem qn_sv0 {post : St2 → Prop} {fc fg fe fp ft fr fl : Int32} {a1 a2 a3 a4 a5 a6 a7 a8 a9 a10 a11 a12 a13 a14 a15 a16 a17 a18 a19 a20 a21 a22 a23 a24 a25 a26 a27 : Nat → Int32} {i : Nat} {t : Int32} (hi : i < 4) (h : a18 i = nI 0) (H : post (fc, fg, fe, fp, ft, fr, fl, a1, a2, a3, a4, a5, a6, a7, a8, a9, a10, a11, a12, a13, a14, a15, a16, a17, a18, a19, a20, a21, a22, a23, a24, a25, a26, a27)) : wpX_serve post (fc, fg, fe, fp, ft, fr, fl, a1, a2, a3, a4, a5, a6, a7, a8, a9, a10, a11, a12, a13, a14, a15, a16, a17, a18, a19, a20, a21, a22, a23, a24, a25, a26, a27) (nI i) t :=
  ⟨1, pk_in i 4 hi, br_c (fun _ => H) (fun _ => ⟨pk_in i 4 hi, br_t (qn_at i h) H⟩)⟩
theorem qn_svF {post : St2 → Prop} {fc fg fe fp ft fr fl : Int32} {a1 a2 a3 a4 a5 a6 a7 a8 a9 a10 a11 a12 a13 a14 a15 a16 a17 a18 a19 a20 a21 a22 a23 a24 a25 a26 a27 : Nat → Int32} {i : Nat} {t : Int32} (hi : i < 4) (h : a19 i = nI 0) (H : post (fc, fg, fe, fp, ft, fr, fl, a1, a2, a3, a4, a5, a6, a7, a8, a9, a10, a11, a12, a13, a14, a15, a16, a17, a18, a19, a20, a21, a22, a23, a24, a25, a26, a27)) : wpX_serve post (fc, fg, fe, fp, ft, fr, fl, a1, a2, a3, a4, a5, a6, a7, a8, a9, a10, a11, a12, a13, a14, a15, a16, a17, a18, a19, a20, a21, a22, a23, a24, a25, a26, a27) (nI i) t :=
  ⟨1, pk_in i 4 hi, br_t (by rw [qn_at i h]; decide) H⟩
theorem qn_sv {post : St2 → Prop} {fc fg fe fp ft fr fl : Int32} {a1 a2 a3 a4 a5 a6 a7 a8 a9 a10 a11 a12 a13 a14 a15 a16 a17 a18 a19 a20 a21 a22 a23 a24 a25 a26 a27 : Nat → Int32} {e l s r c t g W W' : Nat} {L : List Nat} {A N : Nat → Nat} (he : e < 4) (hK : qn_KK s r A N fc a1 a2 a3 a4 a5 a6) (hQ : qn_Q e l L fe fp ft fr fl a20 a21 a22 a23 a24 a25 a26 a27) (hc : c < 2) (ht : t < 200) (hv : a17 c = nI 0) (hW : a18 s = nI W) (hW4 : W < 4) (hW0 : 0 < W) (hW' : W &&& (3 - 2 ^ c) = W') (hF : a19 s = nI 1) (hg : fg = nI g) (hg2 : g < 160)
    (hl : l ≤ 32 * (t + N c) + c) (hn : qn_new (32 * (t + N c) + c) L) (hch : ∀ P : Int32 → Prop, P (nI c) → wpX_choose P (fc, fg, fe, fp, ft, fr, fl, a1, a2, a3, a4, a5, a6, a7, a8, a9, a10, a11, a12, a13, a14, a15, a16, a17, a18, a19, a20, a21, a22, a23, a24, a25, a26, a27) (nI s))
    (H : ∀ (a13' a14' a15' a16' : Nat → Int32) (fp' ft' fr' fl' : Int32) (a20' a21' a22' a23' a24' a25' a26' a27' : Nat → Int32), qn_Q e l (qn_ins (32 * (t + N c) + c) L) fe fp' ft' fr' fl' a20' a21' a22' a23' a24' a25' a26' a27' → post (fc, nI (g + 1), fe, fp', ft', fr', fl', a1, a2, a3, a4, a5, a6, a7, upd a8 (4 * c) (nI t), a9, a10, a11, a12, a13', a14', a15', a16', a17, upd a18 s (nI W'), upd a19 s (nI 0), a20', a21', a22', a23', a24', a25', a26', a27')) : wpX_serve post (fc, fg, fe, fp, ft, fr, fl, a1, a2, a3, a4, a5, a6, a7, a8, a9, a10, a11, a12, a13, a14, a15, a16, a17, a18, a19, a20, a21, a22, a23, a24, a25, a26, a27) (nI s) (nI t) := by
  obtain ⟨k1, k2, k3, k4, k5, k6⟩ := hK
  obtain ⟨m1, m2, m3, m4, m5, m6, m7⟩ := k6 c hc
  subst hW'
  refine ⟨2, pk_in s 4 k1, br_f (by rw [qn_at s hF]; decide) ⟨pk_in s 4 k1, br_f (by rw [qn_at s hW]; exact nI_ne0 hW0 (by omega)) (hch _ ⟨pk_in c 12 (by omega), nm_r (qn_c4 (qn_at c hv)) ⟨pk_in s 4 k1, pk_in s 4 k1, qn_st s (w := nI (W &&& (3 - 2 ^ c))) ⟨pk_in s 4 k1, pk_in s 4 k1, qn_st s (w := nI 0) ⟨pk_in (4 * c) 48 (by omega), qn_st (4 * c) ?_⟩ (hv := by rw [qn_at s hF]; exact qn_dec1)⟩ (hv := by rw [qn_at s hW]; exact qn_clr W hW4 c hc)⟩⟩)⟩⟩
  refine qn_note hg hg2 (fun a13' a14' a15' a16' => ⟨pk_in (4 * c) 48 (by omega), ?_⟩)
  have hev : 32 * (nI t + a6 (nI (4 * c)).toNatClampNeg) + nI c = nI (32 * (t + N c) + c) := by
    rw [qn_at (4 * c) m7, nI_add, show (32 : Int32) = nI 32 from rfl, pk_mul, nI_add]
  rw [hev]
  refine qn_add he hQ hl (by omega) (by omega) hn (fun fp' ft' fr' fl' a20' a21' a22' a23' a24' a25' a26' a27' hQ' => ?_)
  exact ⟨pk_in s 4 k1, br_t (by rw [qn_at s pk_us]; decide) (H _ _ _ _ _ _ _ _ _ _ _ _ _ _ _ _ hQ')⟩
end
section
/-! ===== a run's loops, step by step ===== -/
def qn_ST (e s r : Nat) (A N : Nat → Nat) (l : Nat) (L : List Nat) (g W F c vc d vd : Nat) (fc fg fe fp ft fr fl : Int32) (a1 a2 a3 a4 a5 a6 a7 a8 a9 a10 a11 a12 a13 a14 a15 a16 a17 a18 a19 a20 a21 a22 a23 a24 a25 a26 a27 : Nat → Int32) : Prop :=
  e < 4 ∧ qn_KK s r A N fc a1 a2 a3 a4 a5 a6 ∧ qn_Q e l L fe fp ft fr fl a20 a21 a22 a23 a24 a25 a26 a27 ∧ fg = nI g ∧ g < 100 ∧ a18 s = nI W ∧ W < 4 ∧ a19 s = nI F ∧ (∀ i, i < 4 → i ≠ s → a18 i = nI 0) ∧ a17 c = nI vc ∧ a17 d = nI vd
/-- the outer loop goes on: the time of the next event -/
theorem qn_o {post : St2 → Prop} {fc fg fe fp ft fr fl : Int32} {a1 a2 a3 a4 a5 a6 a7 a8 a9 a10 a11 a12 a13 a14 a15 a16 a17 a18 a19 a20 a21 a22 a23 a24 a25 a26 a27 : Nat → Int32} {e l t X n : Nat} {L : List Nat} (he : e < 4) (hQ : qn_Q e l (X :: L) fe fp ft fr fl a20 a21 a22 a23 a24 a25 a26 a27) (ht : X / 32 = t)
    (H : ∃ fu, wX_run_99 post (wX_run_87 post n) (nI t) fu fc fg fe fp ft fr fl a1 a2 a3 a4 a5 a6 a7 a8 a9 a10 a11 a12 a13 a14 a15 a16 a17 a18 a19 a20 a21 a22 a23 a24 a25 a26 a27) : wX_run_87 post (n + 1) fc fg fe fp ft fr fl a1 a2 a3 a4 a5 a6 a7 a8 a9 a10 a11 a12 a13 a14 a15 a16 a17 a18 a19 a20 a21 a22 a23 a24 a25 a26 a27 := by
  have hp : ¬ fp ≤ 0 := by
    rw [hQ.2.1, List.length_cons]
    have := hQ.2.2.1
    have h2 := (qn_W_head this).2.2.2.1
    exact nI_nle (by omega) (by omega)
  subst ht
  exact br_f hp (qn_next he hQ H)
/-- the inner loop ends -/
theorem qn_iX {post : St2 → Prop} {J : Int32 → Int32 → Int32 → Int32 → Int32 → Int32 → Int32 → (Nat → Int32) → (Nat → Int32) → (Nat → Int32) → (Nat → Int32) → (Nat → Int32) → (Nat → Int32) → (Nat → Int32) → (Nat → Int32) → (Nat → Int32) → (Nat → Int32) → (Nat → Int32) → (Nat → Int32) → (Nat → Int32) → (Nat → Int32) → (Nat → Int32) → (Nat → Int32) → (Nat → Int32) → (Nat → Int32) → (Nat → Int32) → (Nat → Int32) → (Nat → Int32) → (Nat → Int32) → (Nat → Int32) → (Nat → Int32) → (Nat → Int32) → (Nat → Int32) → (Nat → Int32) → Prop} {fc fg fe fp ft fr fl : Int32} {a1 a2 a3 a4 a5 a6 a7 a8 a9 a10 a11 a12 a13 a14 a15 a16 a17 a18 a19 a20 a21 a22 a23 a24 a25 a26 a27 : Nat → Int32} {e l t n : Nat} {L : List Nat} (he : e < 4) (hQ : qn_Q e l L fe fp ft fr fl a20 a21 a22 a23 a24 a25 a26 a27) (ht : t < 200) (hL : ∀ X, X ∈ L → X / 32 ≠ t)
    (H : ∃ fu, wX_run_130 post J (nI t) fu 0 fc fg fe fp ft fr fl a1 a2 a3 a4 a5 a6 a7 a8 a9 a10 a11 a12 a13 a14 a15 a16 a17 a18 a19 a20 a21 a22 a23 a24 a25 a26 a27) : wX_run_99 post J (nI t) (n + 1) fc fg fe fp ft fr fl a1 a2 a3 a4 a5 a6 a7 a8 a9 a10 a11 a12 a13 a14 a15 a16 a17 a18 a19 a20 a21 a22 a23 a24 a25 a26 a27 := by
  match L, hQ, hL with
  | [], hQ, hL =>
    have hp : fp ≤ 0 := by
      rw [hQ.2.1]
      decide
    exact br_t hp H
  | X :: L', hQ, hL =>
    have hw := qn_W_head hQ.2.2.1
    have hp : ¬ fp ≤ 0 := by
      rw [hQ.2.1, List.length_cons]
      exact nI_nle (by omega) (by omega)
    exact br_f hp (qn_next he hQ (pk_eq (X / 32) t (fun z => absurd z (hL X List.mem_cons_self)) (fun _ => H)))
/-- the inner loop: an arrival -/
theorem qn_i1 {post : St2 → Prop} {J : Int32 → Int32 → Int32 → Int32 → Int32 → Int32 → Int32 → (Nat → Int32) → (Nat → Int32) → (Nat → Int32) → (Nat → Int32) → (Nat → Int32) → (Nat → Int32) → (Nat → Int32) → (Nat → Int32) → (Nat → Int32) → (Nat → Int32) → (Nat → Int32) → (Nat → Int32) → (Nat → Int32) → (Nat → Int32) → (Nat → Int32) → (Nat → Int32) → (Nat → Int32) → (Nat → Int32) → (Nat → Int32) → (Nat → Int32) → (Nat → Int32) → (Nat → Int32) → (Nat → Int32) → (Nat → Int32) → (Nat → Int32) → (Nat → Int32) → (Nat → Int32) → Prop} {fc fg fe fp ft fr fl : Int32} {a1 a2 a3 a4 a5 a6 a7 a8 a9 a10 a11 a12 a13 a14 a15 a16 a17 a18 a19 a20 a21 a22 a23 a24 a25 a26 a27 : Nat → Int32} {e s r l g W W' F c d vd t n : Nat} {A N : Nat → Nat} {L : List Nat} (hc : c < 2) (ht : t < 200) (hS : qn_ST e s r A N l ((32 * t + 16 + c) :: L) g W F c 0 d vd fc fg fe fp ft fr fl a1 a2 a3 a4 a5 a6 a7 a8 a9 a10 a11 a12 a13 a14 a15 a16 a17 a18 a19 a20 a21 a22 a23 a24 a25 a26 a27) (hg : g < 90) (hW' : W ||| 2 ^ c = W')
    (H : ∀ (a13' a14' a15' a16' : Nat → Int32) (fp' ft' fr' fl' : Int32) (a20' a21' a22' a23' a24' a25' a26' a27' : Nat → Int32), qn_ST e s r A N (32 * t + 16 + c) L (g + 1) W' F c 0 d vd fc (nI (g + 1)) fe fp' ft' fr' fl' a1 a2 a3 a4 a5 a6 (upd a7 (4 * c) (nI t)) a8 a9 a10 a11 a12 a13' a14' a15' a16' a17 (upd a18 s (nI W')) a19 a20' a21' a22' a23' a24' a25' a26' a27' →
      wX_run_99 post J (nI t) n fc (nI (g + 1)) fe fp' ft' fr' fl' a1 a2 a3 a4 a5 a6 (upd a7 (4 * c) (nI t)) a8 a9 a10 a11 a12 a13' a14' a15' a16' a17 (upd a18 s (nI W')) a19 a20' a21' a22' a23' a24' a25' a26' a27') : wX_run_99 post J (nI t) (n + 1) fc fg fe fp ft fr fl a1 a2 a3 a4 a5 a6 a7 a8 a9 a10 a11 a12 a13 a14 a15 a16 a17 a18 a19 a20 a21 a22 a23 a24 a25 a26 a27 := by
  obtain ⟨s1, s2, s3, s4, s5, s6, s7, s8, s9, s10, s11⟩ := hS
  have hw := qn_W_head s3.2.2.1
  have hp : ¬ fp ≤ 0 := by
    rw [s3.2.1, List.length_cons]
    exact nI_nle (by omega) (by omega)
  have hW4 : W' < 4 := by
    rw [← hW']
    exact Nat.or_lt_two_pow (n := 2) s7 (Nat.pow_lt_pow_right (by omega) (by omega))
  refine br_f hp (qn_next s1 s3 (pk_eq ((32 * t + 16 + c) / 32) t (fun _ => ?_) (fun z => absurd (show (32 * t + 16 + c) / 32 = t by omega) z)))
  refine qn_take s1 s3 (fun fp' ft' fr' fl' a20' a21' a22' a23' a24' a25' a26' a27' hQ' => ?_)
  refine qn_hA hc ht (qn_join s2 hc s10 s6 s7 hW' s4 (by omega) (fun a13' a14' a15' a16' => ?_))
  refine H a13' a14' a15' a16' fp' ft' fr' fl' a20' a21' a22' a23' a24' a25' a26' a27' ⟨s1, s2, hQ', rfl, by omega, pk_us, hW4, s8, fun i hi hn => ?_, s10, s11⟩
  rw [pk_un hn]
  exact s9 i hi hn
/-- the inner loop: an end -/
theorem qn_i2 {post : St2 → Prop} {J : Int32 → Int32 → Int32 → Int32 → Int32 → Int32 → Int32 → (Nat → Int32) → (Nat → Int32) → (Nat → Int32) → (Nat → Int32) → (Nat → Int32) → (Nat → Int32) → (Nat → Int32) → (Nat → Int32) → (Nat → Int32) → (Nat → Int32) → (Nat → Int32) → (Nat → Int32) → (Nat → Int32) → (Nat → Int32) → (Nat → Int32) → (Nat → Int32) → (Nat → Int32) → (Nat → Int32) → (Nat → Int32) → (Nat → Int32) → (Nat → Int32) → (Nat → Int32) → (Nat → Int32) → (Nat → Int32) → (Nat → Int32) → (Nat → Int32) → (Nat → Int32) → Prop} {fc fg fe fp ft fr fl : Int32} {a1 a2 a3 a4 a5 a6 a7 a8 a9 a10 a11 a12 a13 a14 a15 a16 a17 a18 a19 a20 a21 a22 a23 a24 a25 a26 a27 : Nat → Int32} {e s r l g W c d vd t n : Nat} {A N : Nat → Nat} {L : List Nat} (hc : c < 2) (hcd : d ≠ c) (ht : t < 200) (hS : qn_ST e s r A N l ((32 * t + c) :: L) g W 0 c 0 d vd fc fg fe fp ft fr fl a1 a2 a3 a4 a5 a6 a7 a8 a9 a10 a11 a12 a13 a14 a15 a16 a17 a18 a19 a20 a21 a22 a23 a24 a25 a26 a27) (hg : g < 90)
    (H : ∀ (a13' a14' a15' a16' : Nat → Int32) (fp' ft' fr' fl' : Int32) (a20' a21' a22' a23' a24' a25' a26' a27' : Nat → Int32), qn_ST e s r A N (32 * t + c) L (g + 1) W 1 c 1 d vd fc (nI (g + 1)) fe fp' ft' fr' fl' a1 a2 a3 a4 a5 a6 a7 a8 (upd a9 c (nI t)) a10 a11 a12 a13' a14' a15' a16' (upd a17 c (nI 1)) a18 (upd a19 s (nI 1)) a20' a21' a22' a23' a24' a25' a26' a27' →
      wX_run_99 post J (nI t) n fc (nI (g + 1)) fe fp' ft' fr' fl' a1 a2 a3 a4 a5 a6 a7 a8 (upd a9 c (nI t)) a10 a11 a12 a13' a14' a15' a16' (upd a17 c (nI 1)) a18 (upd a19 s (nI 1)) a20' a21' a22' a23' a24' a25' a26' a27') : wX_run_99 post J (nI t) (n + 1) fc fg fe fp ft fr fl a1 a2 a3 a4 a5 a6 a7 a8 a9 a10 a11 a12 a13 a14 a15 a16 a17 a18 a19 a20 a21 a22 a23 a24 a25 a26 a27 := by
  obtain ⟨s1, s2, s3, s4, s5, s6, s7, s8, s9, s10, s11⟩ := hS
  have hw := qn_W_head s3.2.2.1
  have hp : ¬ fp ≤ 0 := by
    rw [s3.2.1, List.length_cons]
    exact nI_nle (by omega) (by omega)
  refine br_f hp (qn_next s1 s3 (pk_eq ((32 * t + c) / 32) t (fun _ => ?_) (fun z => absurd (show (32 * t + c) / 32 = t by omega) z)))
  refine qn_take s1 s3 (fun fp' ft' fr' fl' a20' a21' a22' a23' a24' a25' a26' a27' hQ' => ?_)
  refine qn_hE hc ht (qn_fin s2 hc s10 s8 s4 (by omega) (fun a13' a14' a15' a16' => ?_))
  exact H a13' a14' a15' a16' fp' ft' fr' fl' a20' a21' a22' a23' a24' a25' a26' a27' ⟨s1, s2, hQ', rfl, by omega, s6, s7, pk_us, s9, pk_us, by rw [pk_un hcd]; exact s11⟩
/-- the stations from i on have nobody to serve -/
theorem qn_v130 {post : St2 → Prop} {J : Int32 → Int32 → Int32 → Int32 → Int32 → Int32 → Int32 → (Nat → Int32) → (Nat → Int32) → (Nat → Int32) → (Nat → Int32) → (Nat → Int32) → (Nat → Int32) → (Nat → Int32) → (Nat → Int32) → (Nat → Int32) → (Nat → Int32) → (Nat → Int32) → (Nat → Int32) → (Nat → Int32) → (Nat → Int32) → (Nat → Int32) → (Nat → Int32) → (Nat → Int32) → (Nat → Int32) → (Nat → Int32) → (Nat → Int32) → (Nat → Int32) → (Nat → Int32) → (Nat → Int32) → (Nat → Int32) → (Nat → Int32) → (Nat → Int32) → (Nat → Int32) → Prop} {fc fg fe fp ft fr fl : Int32} {a1 a2 a3 a4 a5 a6 a7 a8 a9 a10 a11 a12 a13 a14 a15 a16 a17 a18 a19 a20 a21 a22 a23 a24 a25 a26 a27 : Nat → Int32} {t : Int32} (H : J fc fg fe fp ft fr fl a1 a2 a3 a4 a5 a6 a7 a8 a9 a10 a11 a12 a13 a14 a15 a16 a17 a18 a19 a20 a21 a22 a23 a24 a25 a26 a27) : ∀ k i, i + k = 4 → (∀ j, i ≤ j → j < 4 → a18 j = nI 0 ∨ a19 j = nI 0) → wX_run_130 post J t (k + 1) (nI i) fc fg fe fp ft fr fl a1 a2 a3 a4 a5 a6 a7 a8 a9 a10 a11 a12 a13 a14 a15 a16 a17 a18 a19 a20 a21 a22 a23 a24 a25 a26 a27 := by
  intro k
  induction k with
  | zero =>
    intro i hi h
    exact pk_le 4 i (fun _ => H) (fun z => absurd z (by omega))
  | succ k ih =>
    intro i hi h
    refine pk_le 4 i (fun z => absurd z (by omega)) (fun _ => ?_)
    rcases h i (by omega) (by omega) with y | y
    · exact qn_sv0 (by omega) y (nm_r (nI_1 i) (ih (i + 1) (by omega) (fun j h1 h2 => h j (by omega) h2)))
    · exact qn_svF (by omega) y (nm_r (nI_1 i) (ih (i + 1) (by omega) (fun j h1 h2 => h j (by omega) h2)))
/-- the stations ahead of s have nobody to serve -/
theorem qn_u130 {post : St2 → Prop} {J : Int32 → Int32 → Int32 → Int32 → Int32 → Int32 → Int32 → (Nat → Int32) → (Nat → Int32) → (Nat → Int32) → (Nat → Int32) → (Nat → Int32) → (Nat → Int32) → (Nat → Int32) → (Nat → Int32) → (Nat → Int32) → (Nat → Int32) → (Nat → Int32) → (Nat → Int32) → (Nat → Int32) → (Nat → Int32) → (Nat → Int32) → (Nat → Int32) → (Nat → Int32) → (Nat → Int32) → (Nat → Int32) → (Nat → Int32) → (Nat → Int32) → (Nat → Int32) → (Nat → Int32) → (Nat → Int32) → (Nat → Int32) → (Nat → Int32) → (Nat → Int32) → Prop} {fc fg fe fp ft fr fl : Int32} {a1 a2 a3 a4 a5 a6 a7 a8 a9 a10 a11 a12 a13 a14 a15 a16 a17 a18 a19 a20 a21 a22 a23 a24 a25 a26 a27 : Nat → Int32} {t : Int32} {s m : Nat} (hs : s < 4) (h : ∀ j, j < 4 → j ≠ s → a18 j = nI 0) (H : wX_run_130 post J t m (nI s) fc fg fe fp ft fr fl a1 a2 a3 a4 a5 a6 a7 a8 a9 a10 a11 a12 a13 a14 a15 a16 a17 a18 a19 a20 a21 a22 a23 a24 a25 a26 a27) : ∀ k i, i + k = s → wX_run_130 post J t (m + k) (nI i) fc fg fe fp ft fr fl a1 a2 a3 a4 a5 a6 a7 a8 a9 a10 a11 a12 a13 a14 a15 a16 a17 a18 a19 a20 a21 a22 a23 a24 a25 a26 a27 := by
  intro k
  induction k with
  | zero =>
    intro i hi
    have e : i = s := by omega
    rw [e]
    exact H
  | succ k ih =>
    intro i hi
    have hn : wX_run_130 post J t (m + k + 1) (nI i) fc fg fe fp ft fr fl a1 a2 a3 a4 a5 a6 a7 a8 a9 a10 a11 a12 a13 a14 a15 a16 a17 a18 a19 a20 a21 a22 a23 a24 a25 a26 a27 := pk_le 4 i (fun z => absurd z (by omega)) (fun _ => qn_sv0 (by omega) (h i (by omega) (by omega)) (nm_r (nI_1 i) (ih (i + 1) (by omega))))
    exact hn
theorem qn_v0 {post : St2 → Prop} {J : Int32 → Int32 → Int32 → Int32 → Int32 → Int32 → Int32 → (Nat → Int32) → (Nat → Int32) → (Nat → Int32) → (Nat → Int32) → (Nat → Int32) → (Nat → Int32) → (Nat → Int32) → (Nat → Int32) → (Nat → Int32) → (Nat → Int32) → (Nat → Int32) → (Nat → Int32) → (Nat → Int32) → (Nat → Int32) → (Nat → Int32) → (Nat → Int32) → (Nat → Int32) → (Nat → Int32) → (Nat → Int32) → (Nat → Int32) → (Nat → Int32) → (Nat → Int32) → (Nat → Int32) → (Nat → Int32) → (Nat → Int32) → (Nat → Int32) → (Nat → Int32) → Prop} {fc fg fe fp ft fr fl : Int32} {a1 a2 a3 a4 a5 a6 a7 a8 a9 a10 a11 a12 a13 a14 a15 a16 a17 a18 a19 a20 a21 a22 a23 a24 a25 a26 a27 : Nat → Int32} {e s r l g W F c vc d vd : Nat} {t : Int32} {A N : Nat → Nat} {L : List Nat} (hS : qn_ST e s r A N l L g W F c vc d vd fc fg fe fp ft fr fl a1 a2 a3 a4 a5 a6 a7 a8 a9 a10 a11 a12 a13 a14 a15 a16 a17 a18 a19 a20 a21 a22 a23 a24 a25 a26 a27) (h : W = 0 ∨ F = 0) (H : J fc fg fe fp ft fr fl a1 a2 a3 a4 a5 a6 a7 a8 a9 a10 a11 a12 a13 a14 a15 a16 a17 a18 a19 a20 a21 a22 a23 a24 a25 a26 a27) : ∃ fu, wX_run_130 post J t fu 0 fc fg fe fp ft fr fl a1 a2 a3 a4 a5 a6 a7 a8 a9 a10 a11 a12 a13 a14 a15 a16 a17 a18 a19 a20 a21 a22 a23 a24 a25 a26 a27 := by
  obtain ⟨s1, s2, s3, s4, s5, s6, s7, s8, s9, s10, s11⟩ := hS
  refine ⟨5, qn_v130 H 4 0 (by omega) (fun j _ hj => ?_)⟩
  by_cases y : j = s
  · rw [y]
    rcases h with z | z
    · rw [z] at s6
      exact Or.inl s6
    · rw [z] at s8
      exact Or.inr s8
  · exact Or.inl (s9 j hj y)
theorem qn_v1 {post : St2 → Prop} {J : Int32 → Int32 → Int32 → Int32 → Int32 → Int32 → Int32 → (Nat → Int32) → (Nat → Int32) → (Nat → Int32) → (Nat → Int32) → (Nat → Int32) → (Nat → Int32) → (Nat → Int32) → (Nat → Int32) → (Nat → Int32) → (Nat → Int32) → (Nat → Int32) → (Nat → Int32) → (Nat → Int32) → (Nat → Int32) → (Nat → Int32) → (Nat → Int32) → (Nat → Int32) → (Nat → Int32) → (Nat → Int32) → (Nat → Int32) → (Nat → Int32) → (Nat → Int32) → (Nat → Int32) → (Nat → Int32) → (Nat → Int32) → (Nat → Int32) → (Nat → Int32) → Prop} {fc fg fe fp ft fr fl : Int32} {a1 a2 a3 a4 a5 a6 a7 a8 a9 a10 a11 a12 a13 a14 a15 a16 a17 a18 a19 a20 a21 a22 a23 a24 a25 a26 a27 : Nat → Int32} {e s r l g W W' c d vd t : Nat} {A N : Nat → Nat} {L : List Nat} (hc : c < 2) (ht : t < 200) (hS : qn_ST e s r A N l L g W 1 c 0 d vd fc fg fe fp ft fr fl a1 a2 a3 a4 a5 a6 a7 a8 a9 a10 a11 a12 a13 a14 a15 a16 a17 a18 a19 a20 a21 a22 a23 a24 a25 a26 a27) (hg : g < 90) (hW0 : 0 < W) (hW' : W &&& (3 - 2 ^ c) = W')
    (hl : l ≤ 32 * (t + N c) + c) (hn : qn_new (32 * (t + N c) + c) L) (hch : ∀ P : Int32 → Prop, P (nI c) → wpX_choose P (fc, fg, fe, fp, ft, fr, fl, a1, a2, a3, a4, a5, a6, a7, a8, a9, a10, a11, a12, a13, a14, a15, a16, a17, a18, a19, a20, a21, a22, a23, a24, a25, a26, a27) (nI s))
    (H : ∀ (a13' a14' a15' a16' : Nat → Int32) (fp' ft' fr' fl' : Int32) (a20' a21' a22' a23' a24' a25' a26' a27' : Nat → Int32), qn_ST e s r A N l (qn_ins (32 * (t + N c) + c) L) (g + 1) W' 0 c 0 d vd fc (nI (g + 1)) fe fp' ft' fr' fl' a1 a2 a3 a4 a5 a6 a7 (upd a8 (4 * c) (nI t)) a9 a10 a11 a12 a13' a14' a15' a16' a17 (upd a18 s (nI W')) (upd a19 s (nI 0)) a20' a21' a22' a23' a24' a25' a26' a27' →
      J fc (nI (g + 1)) fe fp' ft' fr' fl' a1 a2 a3 a4 a5 a6 a7 (upd a8 (4 * c) (nI t)) a9 a10 a11 a12 a13' a14' a15' a16' a17 (upd a18 s (nI W')) (upd a19 s (nI 0)) a20' a21' a22' a23' a24' a25' a26' a27') : ∃ fu, wX_run_130 post J (nI t) fu 0 fc fg fe fp ft fr fl a1 a2 a3 a4 a5 a6 a7 a8 a9 a10 a11 a12 a13 a14 a15 a16 a17 a18 a19 a20 a21 a22 a23 a24 a25 a26 a27 := by
  obtain ⟨s1, s2, s3, s4, s5, s6, s7, s8, s9, s10, s11⟩ := hS
  have hs : s < 4 := s2.1
  have hW4 : W' < 4 := by
    rw [← hW']
    exact Nat.lt_of_le_of_lt Nat.and_le_left s7
  refine ⟨(4 - (s + 1) + 1) + 1 + s, qn_u130 hs s9 ?_ s 0 (by omega)⟩
  refine pk_le 4 s (fun z => absurd z (by omega)) (fun _ => ?_)
  refine qn_sv s1 s2 s3 hc ht s10 s6 s7 hW0 hW' s8 s4 (by omega) hl hn hch (fun a13' a14' a15' a16' fp' ft' fr' fl' a20' a21' a22' a23' a24' a25' a26' a27' hQ' => nm_r (nI_1 s) ?_)
  have h9 : ∀ i, i < 4 → i ≠ s → upd a18 s (nI W') i = nI 0 := by
    intro i hi hn
    rw [pk_un hn]
    exact s9 i hi hn
  exact qn_v130 (H a13' a14' a15' a16' fp' ft' fr' fl' a20' a21' a22' a23' a24' a25' a26' a27' ⟨s1, s2, hQ', rfl, by omega, pk_us, hW4, pk_us, h9, s10, s11⟩) (4 - (s + 1)) (s + 1) (by omega) (fun j h1 h2 => Or.inl (h9 j h2 (by omega)))
end
section
/-! ===== a run's states: c is served first, d second ===== -/
/-- what a run leaves: c began at once, d at bd -/
def qn_E (A N : Nat → Nat) (c d bd : Nat) (a7 a8 a9 : Nat → Int32) : Prop :=
  a7 (4 * c) = nI (A c) ∧ a7 (4 * d) = nI (A d) ∧ a8 (4 * c) = nI (A c) ∧ a8 (4 * d) = nI bd ∧ a9 c = nI (A c + N c) ∧ a9 d = nI (bd + N d)
theorem qn_KN {s r : Nat} {A N : Nat → Nat} {fc : Int32} {a1 a2 a3 a4 a5 a6 : Nat → Int32} (h : qn_KK s r A N fc a1 a2 a3 a4 a5 a6) {c : Nat} (hc : c < 2) : A c ≤ 100 ∧ 1 ≤ N c ∧ N c ≤ 30 := by
  obtain ⟨k1, k2, k3, k4, k5, k6⟩ := h
  obtain ⟨m1, m2, m3, -⟩ := k6 c hc
  exact ⟨m1, m2, m3⟩
section
variable {post : St2 → Prop} {e s r c d : Nat} {A N : Nat → Nat}
/-- c is gone, d is served -/
theorem qn_sE {fc fg fe fp ft fr fl : Int32} {a1 a2 a3 a4 a5 a6 a7 a8 a9 a10 a11 a12 a13 a14 a15 a16 a17 a18 a19 a20 a21 a22 a23 a24 a25 a26 a27 : Nat → Int32} {l g bd n : Nat} (hc : c < 2) (hd : d < 2) (hcd : c ≠ d) (hb : bd ≤ 130)
    (H : ∀ (fg' fp' ft' fr' fl' : Int32) (a20' a21' a22' a23' a24' a25' a26' a27' a7' a8' a9' a13' a14' a15' a16' a17' a18' a19' : Nat → Int32), qn_E A N c d bd a7' a8' a9' → post (fc, fg', fe, fp', ft', fr', fl', a1, a2, a3, a4, a5, a6, a7', a8', a9', a10, a11, a12, a13', a14', a15', a16', a17', a18', a19', a20', a21', a22', a23', a24', a25', a26', a27'))
    (hS : qn_ST e s r A N l [32 * (bd + N d) + d] g 0 0 d 0 c 1 fc fg fe fp ft fr fl a1 a2 a3 a4 a5 a6 a7 a8 a9 a10 a11 a12 a13 a14 a15 a16 a17 a18 a19 a20 a21 a22 a23 a24 a25 a26 a27) (hg : g < 80) (h1 : a7 (4 * c) = nI (A c)) (h2 : a7 (4 * d) = nI (A d)) (h3 : a8 (4 * c) = nI (A c)) (h4 : a8 (4 * d) = nI bd) (h5 : a9 c = nI (A c + N c)) : wX_run_87 post (n + 2) fc fg fe fp ft fr fl a1 a2 a3 a4 a5 a6 a7 a8 a9 a10 a11 a12 a13 a14 a15 a16 a17 a18 a19 a20 a21 a22 a23 a24 a25 a26 a27 := by
  have hn := qn_KN hS.2.1 hd
  refine qn_o (t := bd + N d) hS.1 hS.2.2.1 (by omega) ⟨2, qn_i2 hd hcd (by omega) hS (by omega) (fun a13' a14' a15' a16' fp' ft' fr' fl' a20' a21' a22' a23' a24' a25' a26' a27' hS' => ?_)⟩
  refine qn_iX hS'.1 hS'.2.2.1 (by omega) (fun X hX => absurd hX (by simp)) (qn_v0 hS' (Or.inl rfl) ?_)
  refine br_t (by rw [hS'.2.2.1.2.1]; decide) (H _ _ _ _ _ _ _ _ _ _ _ _ _ _ _ _ _ _ _ _ _ _ _ ⟨h1, h2, h3, h4, ?_, pk_us⟩)
  rw [pk_un hcd]
  exact h5
/-- c is served, d waits -/
theorem qn_sC {fc fg fe fp ft fr fl : Int32} {a1 a2 a3 a4 a5 a6 a7 a8 a9 a10 a11 a12 a13 a14 a15 a16 a17 a18 a19 a20 a21 a22 a23 a24 a25 a26 a27 : Nat → Int32} {l g n : Nat} (hc : c < 2) (hd : d < 2) (hcd : c ≠ d)
    (H : ∀ (fg' fp' ft' fr' fl' : Int32) (a20' a21' a22' a23' a24' a25' a26' a27' a7' a8' a9' a13' a14' a15' a16' a17' a18' a19' : Nat → Int32), qn_E A N c d (A c + N c) a7' a8' a9' → post (fc, fg', fe, fp', ft', fr', fl', a1, a2, a3, a4, a5, a6, a7', a8', a9', a10, a11, a12, a13', a14', a15', a16', a17', a18', a19', a20', a21', a22', a23', a24', a25', a26', a27'))
    (hS : qn_ST e s r A N l [32 * (A c + N c) + c] g (2 ^ d) 0 c 0 d 0 fc fg fe fp ft fr fl a1 a2 a3 a4 a5 a6 a7 a8 a9 a10 a11 a12 a13 a14 a15 a16 a17 a18 a19 a20 a21 a22 a23 a24 a25 a26 a27) (hg : g < 70) (h1 : a7 (4 * c) = nI (A c)) (h2 : a7 (4 * d) = nI (A d)) (h3 : a8 (4 * c) = nI (A c)) : wX_run_87 post (n + 3) fc fg fe fp ft fr fl a1 a2 a3 a4 a5 a6 a7 a8 a9 a10 a11 a12 a13 a14 a15 a16 a17 a18 a19 a20 a21 a22 a23 a24 a25 a26 a27 := by
  have hn := qn_KN hS.2.1 hc
  have hn2 := qn_KN hS.2.1 hd
  have hs : s < 4 := hS.2.1.1
  refine qn_o (t := A c + N c) hS.1 hS.2.2.1 (by omega) ⟨2, qn_i2 hc (fun z => hcd z.symm) (by omega) hS (by omega) (fun a13' a14' a15' a16' fp' ft' fr' fl' a20' a21' a22' a23' a24' a25' a26' a27' hS' => ?_)⟩
  refine qn_iX hS'.1 hS'.2.2.1 (by omega) (fun X hX => absurd hX (by simp)) ?_
  have hS2 : qn_ST e s r A N (32 * (A c + N c) + c) [] (g + 1) (2 ^ d) 1 d 0 c 1 fc (nI (g + 1)) fe fp' ft' fr' fl' a1 a2 a3 a4 a5 a6 a7 a8 (upd a9 c (nI (A c + N c))) a10 a11 a12 a13' a14' a15' a16' (upd a17 c (nI 1)) a18 (upd a19 s (nI 1)) a20' a21' a22' a23' a24' a25' a26' a27' := by
    obtain ⟨s1, s2, s3, s4, s5, s6, s7, s8, s9, s10, s11⟩ := hS'
    exact ⟨s1, s2, s3, s4, s5, s6, s7, s8, s9, s11, s10⟩
  refine qn_v1 hd (by omega) hS2 (by omega) (Nat.two_pow_pos d) (W' := 0) (by rcases (show d = 0 ∨ d = 1 by omega) with y | y <;> subst y <;> rfl) (by omega) trivial (fun P hP => qn_ch1 hs hd hS2.2.2.2.2.2.1 hP) (fun b13 b14 b15 b16 fp'' ft'' fr'' fl'' a20'' a21'' a22'' a23'' a24'' a25'' a26'' a27'' hS3 => ?_)
  refine qn_sE hc hd hcd (by omega) (fun fg' fp' ft' fr' fl' a20' a21' a22' a23' a24' a25' a26' a27' a7' a8' a9' a13' a14' a15' a16' a17' a18' a19' hE => H _ _ _ _ _ _ _ _ _ _ _ _ _ _ _ _ _ _ _ _ _ _ _ hE) hS3 (by omega) h1 h2 ?_ pk_us pk_us
  rw [pk_un (by omega)]
  exact h3
/-- c is gone, d hasn't come -/
theorem qn_sD {fc fg fe fp ft fr fl : Int32} {a1 a2 a3 a4 a5 a6 a7 a8 a9 a10 a11 a12 a13 a14 a15 a16 a17 a18 a19 a20 a21 a22 a23 a24 a25 a26 a27 : Nat → Int32} {l g n : Nat} (hc : c < 2) (hd : d < 2) (hcd : c ≠ d)
    (H : ∀ (fg' fp' ft' fr' fl' : Int32) (a20' a21' a22' a23' a24' a25' a26' a27' a7' a8' a9' a13' a14' a15' a16' a17' a18' a19' : Nat → Int32), qn_E A N c d (A d) a7' a8' a9' → post (fc, fg', fe, fp', ft', fr', fl', a1, a2, a3, a4, a5, a6, a7', a8', a9', a10, a11, a12, a13', a14', a15', a16', a17', a18', a19', a20', a21', a22', a23', a24', a25', a26', a27'))
    (hS : qn_ST e s r A N l [32 * A d + 16 + d] g 0 1 d 0 c 1 fc fg fe fp ft fr fl a1 a2 a3 a4 a5 a6 a7 a8 a9 a10 a11 a12 a13 a14 a15 a16 a17 a18 a19 a20 a21 a22 a23 a24 a25 a26 a27) (hg : g < 70) (h1 : a7 (4 * c) = nI (A c)) (h3 : a8 (4 * c) = nI (A c)) (h5 : a9 c = nI (A c + N c)) : wX_run_87 post (n + 3) fc fg fe fp ft fr fl a1 a2 a3 a4 a5 a6 a7 a8 a9 a10 a11 a12 a13 a14 a15 a16 a17 a18 a19 a20 a21 a22 a23 a24 a25 a26 a27 := by
  have hn := qn_KN hS.2.1 hc
  have hn2 := qn_KN hS.2.1 hd
  have hs : s < 4 := hS.2.1.1
  refine qn_o (t := A d) hS.1 hS.2.2.1 (by omega) ⟨2, qn_i1 hd (by omega) hS (by omega) (Nat.zero_or _) (fun a13' a14' a15' a16' fp' ft' fr' fl' a20' a21' a22' a23' a24' a25' a26' a27' hS' => ?_)⟩
  refine qn_iX hS'.1 hS'.2.2.1 (by omega) (fun X hX => absurd hX (by simp)) ?_
  refine qn_v1 hd (by omega) hS' (by omega) (Nat.two_pow_pos d) (W' := 0) (by rcases (show d = 0 ∨ d = 1 by omega) with y | y <;> subst y <;> rfl) (by omega) trivial (fun P hP => qn_ch1 hs hd hS'.2.2.2.2.2.1 hP) (fun b13 b14 b15 b16 fp'' ft'' fr'' fl'' a20'' a21'' a22'' a23'' a24'' a25'' a26'' a27'' hS3 => ?_)
  refine qn_sE hc hd hcd (by omega) (fun fg' fp' ft' fr' fl' a20' a21' a22' a23' a24' a25' a26' a27' a7' a8' a9' a13' a14' a15' a16' a17' a18' a19' hE => H _ _ _ _ _ _ _ _ _ _ _ _ _ _ _ _ _ _ _ _ _ _ _ hE) hS3 (by omega) ?_ pk_us ?_ pk_us h5
  · rw [pk_un (by omega)]
    exact h1
  · rw [pk_un (by omega)]
    exact h3
/-- c is served, d hasn't come -/
theorem qn_sB {fc fg fe fp ft fr fl : Int32} {a1 a2 a3 a4 a5 a6 a7 a8 a9 a10 a11 a12 a13 a14 a15 a16 a17 a18 a19 a20 a21 a22 a23 a24 a25 a26 a27 : Nat → Int32} {l g n : Nat} (hc : c < 2) (hd : d < 2) (hcd : c ≠ d)
    (H : ∀ (fg' fp' ft' fr' fl' : Int32) (a20' a21' a22' a23' a24' a25' a26' a27' a7' a8' a9' a13' a14' a15' a16' a17' a18' a19' : Nat → Int32), qn_E A N c d (max (A c + N c) (A d)) a7' a8' a9' → post (fc, fg', fe, fp', ft', fr', fl', a1, a2, a3, a4, a5, a6, a7', a8', a9', a10, a11, a12, a13', a14', a15', a16', a17', a18', a19', a20', a21', a22', a23', a24', a25', a26', a27'))
    (hS : qn_ST e s r A N l (qn_ins (32 * (A c + N c) + c) [32 * A d + 16 + d]) g 0 0 c 0 d 0 fc fg fe fp ft fr fl a1 a2 a3 a4 a5 a6 a7 a8 a9 a10 a11 a12 a13 a14 a15 a16 a17 a18 a19 a20 a21 a22 a23 a24 a25 a26 a27) (hg : g < 60) (h1 : a7 (4 * c) = nI (A c)) (h3 : a8 (4 * c) = nI (A c)) : wX_run_87 post (n + 4) fc fg fe fp ft fr fl a1 a2 a3 a4 a5 a6 a7 a8 a9 a10 a11 a12 a13 a14 a15 a16 a17 a18 a19 a20 a21 a22 a23 a24 a25 a26 a27 := by
  have hn := qn_KN hS.2.1 hc
  have hn2 := qn_KN hS.2.1 hd
  have hs : s < 4 := hS.2.1.1
  have hdc : d ≠ c := fun z => hcd z.symm
  rcases Nat.lt_or_ge (A d) (A c + N c) with y | y
  · have hi : qn_ins (32 * (A c + N c) + c) [32 * A d + 16 + d] = [32 * A d + 16 + d, 32 * (A c + N c) + c] := by
      rw [qn_ins1, if_neg (by omega)]
    rw [hi] at hS
    rw [Nat.max_eq_left (by omega)] at H
    have hS1 : qn_ST e s r A N l [32 * A d + 16 + d, 32 * (A c + N c) + c] g 0 0 d 0 c 0 fc fg fe fp ft fr fl a1 a2 a3 a4 a5 a6 a7 a8 a9 a10 a11 a12 a13 a14 a15 a16 a17 a18 a19 a20 a21 a22 a23 a24 a25 a26 a27 := by
      obtain ⟨s1, s2, s3, s4, s5, s6, s7, s8, s9, s10, s11⟩ := hS
      exact ⟨s1, s2, s3, s4, s5, s6, s7, s8, s9, s11, s10⟩
    refine qn_o (t := A d) hS.1 hS.2.2.1 (by omega) ⟨2, qn_i1 hd (by omega) hS1 (by omega) (Nat.zero_or _) (fun a13' a14' a15' a16' fp' ft' fr' fl' a20' a21' a22' a23' a24' a25' a26' a27' hS' => ?_)⟩
    refine qn_iX hS'.1 hS'.2.2.1 (by omega) (fun X hX => ?_) (qn_v0 hS' (Or.inr rfl) ?_)
    · rw [List.mem_singleton] at hX
      subst hX
      omega
    · have hS2 : qn_ST e s r A N (32 * A d + 16 + d) [32 * (A c + N c) + c] (g + 1) (2 ^ d) 0 c 0 d 0 fc (nI (g + 1)) fe fp' ft' fr' fl' a1 a2 a3 a4 a5 a6 (upd a7 (4 * d) (nI (A d))) a8 a9 a10 a11 a12 a13' a14' a15' a16' a17 (upd a18 s (nI (2 ^ d))) a19 a20' a21' a22' a23' a24' a25' a26' a27' := by
        obtain ⟨s1, s2, s3, s4, s5, s6, s7, s8, s9, s10, s11⟩ := hS'
        exact ⟨s1, s2, s3, s4, s5, s6, s7, s8, s9, s11, s10⟩
      refine qn_sC hc hd hcd (fun fg' fp' ft' fr' fl' a20' a21' a22' a23' a24' a25' a26' a27' a7' a8' a9' a13' a14' a15' a16' a17' a18' a19' hE => H _ _ _ _ _ _ _ _ _ _ _ _ _ _ _ _ _ _ _ _ _ _ _ hE) hS2 (by omega) ?_ pk_us h3
      rw [pk_un (by omega)]
      exact h1
  · have hi : qn_ins (32 * (A c + N c) + c) [32 * A d + 16 + d] = [32 * (A c + N c) + c, 32 * A d + 16 + d] := by
      rw [qn_ins1, if_pos (by omega)]
    rw [hi] at hS
    rw [Nat.max_eq_right (by omega)] at H
    refine qn_o (t := A c + N c) hS.1 hS.2.2.1 (by omega) ⟨3, qn_i2 hc hdc (by omega) hS (by omega) (fun a13' a14' a15' a16' fp' ft' fr' fl' a20' a21' a22' a23' a24' a25' a26' a27' hS' => ?_)⟩
    have hS1 : qn_ST e s r A N (32 * (A c + N c) + c) [32 * A d + 16 + d] (g + 1) 0 1 d 0 c 1 fc (nI (g + 1)) fe fp' ft' fr' fl' a1 a2 a3 a4 a5 a6 a7 a8 (upd a9 c (nI (A c + N c))) a10 a11 a12 a13' a14' a15' a16' (upd a17 c (nI 1)) a18 (upd a19 s (nI 1)) a20' a21' a22' a23' a24' a25' a26' a27' := by
      obtain ⟨s1, s2, s3, s4, s5, s6, s7, s8, s9, s10, s11⟩ := hS'
      exact ⟨s1, s2, s3, s4, s5, s6, s7, s8, s9, s11, s10⟩
    by_cases z : A c + N c = A d
    · rw [z]
      rw [z] at hS1
      refine qn_i1 hd (by omega) hS1 (by omega) (Nat.zero_or _) (fun b13 b14 b15 b16 fp'' ft'' fr'' fl'' a20'' a21'' a22'' a23'' a24'' a25'' a26'' a27'' hS2 => ?_)
      refine qn_iX hS2.1 hS2.2.2.1 (by omega) (fun X hX => absurd hX (by simp)) ?_
      refine qn_v1 hd (by omega) hS2 (by omega) (Nat.two_pow_pos d) (W' := 0) (by rcases (show d = 0 ∨ d = 1 by omega) with y | y <;> subst y <;> rfl) (by omega) trivial (fun P hP => qn_ch1 hs hd hS2.2.2.2.2.2.1 hP) (fun c13 c14 c15 c16 fp''' ft''' fr''' fl''' a20''' a21''' a22''' a23''' a24''' a25''' a26''' a27''' hS3 => ?_)
      refine qn_sE hc hd hcd (by omega) (fun fg' fp' ft' fr' fl' a20' a21' a22' a23' a24' a25' a26' a27' a7' a8' a9' a13' a14' a15' a16' a17' a18' a19' hE => H _ _ _ _ _ _ _ _ _ _ _ _ _ _ _ _ _ _ _ _ _ _ _ hE) hS3 (by omega) ?_ pk_us ?_ pk_us ?_
      · rw [pk_un (by omega)]
        exact h1
      · rw [pk_un (by omega)]
        exact h3
      · rw [z]
        exact pk_us
    · refine qn_iX hS1.1 hS1.2.2.1 (by omega) (fun X hX => ?_) (qn_v0 hS1 (Or.inl rfl) ?_)
      · rw [List.mem_singleton] at hX
        subst hX
        omega
      · exact qn_sD hc hd hcd (fun fg' fp' ft' fr' fl' a20' a21' a22' a23' a24' a25' a26' a27' a7' a8' a9' a13' a14' a15' a16' a17' a18' a19' hE => H _ _ _ _ _ _ _ _ _ _ _ _ _ _ _ _ _ _ _ _ _ _ _ hE) hS1 (by omega) h1 h3 pk_us
/-- nobody has come; c comes first -/
theorem qn_sA {fc fg fe fp ft fr fl : Int32} {a1 a2 a3 a4 a5 a6 a7 a8 a9 a10 a11 a12 a13 a14 a15 a16 a17 a18 a19 a20 a21 a22 a23 a24 a25 a26 a27 : Nat → Int32} {l g n : Nat} (hc : c < 2) (hd : d < 2) (hcd : c ≠ d) (hA : A c < A d)
    (H : ∀ (fg' fp' ft' fr' fl' : Int32) (a20' a21' a22' a23' a24' a25' a26' a27' a7' a8' a9' a13' a14' a15' a16' a17' a18' a19' : Nat → Int32), qn_E A N c d (max (A c + N c) (A d)) a7' a8' a9' → post (fc, fg', fe, fp', ft', fr', fl', a1, a2, a3, a4, a5, a6, a7', a8', a9', a10, a11, a12, a13', a14', a15', a16', a17', a18', a19', a20', a21', a22', a23', a24', a25', a26', a27'))
    (hS : qn_ST e s r A N l [32 * A c + 16 + c, 32 * A d + 16 + d] g 0 1 c 0 d 0 fc fg fe fp ft fr fl a1 a2 a3 a4 a5 a6 a7 a8 a9 a10 a11 a12 a13 a14 a15 a16 a17 a18 a19 a20 a21 a22 a23 a24 a25 a26 a27) (hg : g < 50) : wX_run_87 post (n + 5) fc fg fe fp ft fr fl a1 a2 a3 a4 a5 a6 a7 a8 a9 a10 a11 a12 a13 a14 a15 a16 a17 a18 a19 a20 a21 a22 a23 a24 a25 a26 a27 := by
  have hn := qn_KN hS.2.1 hc
  have hn2 := qn_KN hS.2.1 hd
  have hs : s < 4 := hS.2.1.1
  refine qn_o (t := A c) hS.1 hS.2.2.1 (by omega) ⟨2, qn_i1 hc (by omega) hS (by omega) (Nat.zero_or _) (fun a13' a14' a15' a16' fp' ft' fr' fl' a20' a21' a22' a23' a24' a25' a26' a27' hS' => ?_)⟩
  refine qn_iX hS'.1 hS'.2.2.1 (by omega) (fun X hX => ?_) ?_
  · rw [List.mem_singleton] at hX
    subst hX
    omega
  · refine qn_v1 hc (by omega) hS' (by omega) (Nat.two_pow_pos c) (W' := 0) (by rcases (show c = 0 ∨ c = 1 by omega) with y | y <;> subst y <;> rfl) (by omega) ?_ (fun P hP => qn_ch1 hs hc hS'.2.2.2.2.2.1 hP) (fun b13 b14 b15 b16 fp'' ft'' fr'' fl'' a20'' a21'' a22'' a23'' a24'' a25'' a26'' a27'' hS3 => ?_)
    · show (32 * (A c + N c) + c) % 16 ≠ (32 * A d + 16 + d) % 16
      omega
    · exact qn_sB hc hd hcd (fun fg' fp' ft' fr' fl' a20' a21' a22' a23' a24' a25' a26' a27' a7' a8' a9' a13' a14' a15' a16' a17' a18' a19' hE => H _ _ _ _ _ _ _ _ _ _ _ _ _ _ _ _ _ _ _ _ _ _ _ hE) hS3 (by omega) pk_us pk_us
/-- nobody has come; both come at the same time -/
theorem qn_sA2 {fc fg fe fp ft fr fl : Int32} {a1 a2 a3 a4 a5 a6 a7 a8 a9 a10 a11 a12 a13 a14 a15 a16 a17 a18 a19 a20 a21 a22 a23 a24 a25 a26 a27 : Nat → Int32} {l g n : Nat} (hc : c = qn_fst r N) (hd : d = 1 - c) (hA : A 1 = A 0)
    (H : ∀ (fg' fp' ft' fr' fl' : Int32) (a20' a21' a22' a23' a24' a25' a26' a27' a7' a8' a9' a13' a14' a15' a16' a17' a18' a19' : Nat → Int32), qn_E A N c d (A c + N c) a7' a8' a9' → post (fc, fg', fe, fp', ft', fr', fl', a1, a2, a3, a4, a5, a6, a7', a8', a9', a10, a11, a12, a13', a14', a15', a16', a17', a18', a19', a20', a21', a22', a23', a24', a25', a26', a27'))
    (hS : qn_ST e s r A N l [32 * A 0 + 16 + 0, 32 * A 1 + 16 + 1] g 0 1 0 0 1 0 fc fg fe fp ft fr fl a1 a2 a3 a4 a5 a6 a7 a8 a9 a10 a11 a12 a13 a14 a15 a16 a17 a18 a19 a20 a21 a22 a23 a24 a25 a26 a27) (hg : g < 50) : wX_run_87 post (n + 4) fc fg fe fp ft fr fl a1 a2 a3 a4 a5 a6 a7 a8 a9 a10 a11 a12 a13 a14 a15 a16 a17 a18 a19 a20 a21 a22 a23 a24 a25 a26 a27 := by
  have hn := qn_KN hS.2.1 (c := 0) (by omega)
  have hn2 := qn_KN hS.2.1 (c := 1) (by omega)
  have hs : s < 4 := hS.2.1.1
  have hc2 : c < 2 := by
    rw [hc]
    unfold qn_fst
    split <;> omega
  rw [hA] at hS
  refine qn_o (t := A 0) hS.1 hS.2.2.1 (by omega) ⟨3, qn_i1 (c := 0) (by omega) (by omega) hS (by omega) (Nat.zero_or _) (fun a13' a14' a15' a16' fp' ft' fr' fl' a20' a21' a22' a23' a24' a25' a26' a27' hS' => ?_)⟩
  have hS1 : qn_ST e s r A N (32 * A 0 + 16 + 0) [32 * A 0 + 16 + 1] (g + 1) (2 ^ 0) 1 1 0 0 0 fc (nI (g + 1)) fe fp' ft' fr' fl' a1 a2 a3 a4 a5 a6 (upd a7 (4 * 0) (nI (A 0))) a8 a9 a10 a11 a12 a13' a14' a15' a16' a17 (upd a18 s (nI (2 ^ 0))) a19 a20' a21' a22' a23' a24' a25' a26' a27' := by
    obtain ⟨s1, s2, s3, s4, s5, s6, s7, s8, s9, s10, s11⟩ := hS'
    exact ⟨s1, s2, s3, s4, s5, s6, s7, s8, s9, s11, s10⟩
  refine qn_i1 (c := 1) (by omega) (by omega) hS1 (by omega) (W' := 3) rfl (fun b13 b14 b15 b16 fp'' ft'' fr'' fl'' a20'' a21'' a22'' a23'' a24'' a25'' a26'' a27'' hS2 => ?_)
  refine qn_iX hS2.1 hS2.2.2.1 (by omega) (fun X hX => absurd hX (by simp)) ?_
  have hS3 : qn_ST e s r A N (32 * A 0 + 16 + 1) [] (g + 1 + 1) 3 1 c 0 d 0 fc (nI (g + 1 + 1)) fe fp'' ft'' fr'' fl'' a1 a2 a3 a4 a5 a6 (upd (upd a7 (4 * 0) (nI (A 0))) (4 * 1) (nI (A 0))) a8 a9 a10 a11 a12 b13 b14 b15 b16 a17 (upd (upd a18 s (nI (2 ^ 0))) s (nI 3)) a19 a20'' a21'' a22'' a23'' a24'' a25'' a26'' a27'' := by
    obtain ⟨s1, s2, s3, s4, s5, s6, s7, s8, s9, s10, s11⟩ := hS2
    rcases (show c = 0 ∨ c = 1 by omega) with y | y
    · have y2 : d = 1 := by omega
      rw [y, y2]
      exact ⟨s1, s2, s3, s4, s5, s6, s7, s8, s9, s11, s10⟩
    · have y2 : d = 0 := by omega
      rw [y, y2]
      exact ⟨s1, s2, s3, s4, s5, s6, s7, s8, s9, s10, s11⟩
  obtain ⟨u1, u2, u3, u4, u5, u6, u7, u8, u9, u10, u11⟩ := hS2
  have hAc : A c = A 0 := by
    rcases (show c = 0 ∨ c = 1 by omega) with y | y
    · rw [y]
    · rw [y, hA]
  have hAd : A d = A 0 := by
    rcases (show d = 0 ∨ d = 1 by omega) with y | y
    · rw [y]
    · rw [y, hA]
  have hNc := qn_KN hS.2.1 hc2
  have hj : ∀ i, i < 2 → upd (upd a7 (4 * 0) (nI (A 0))) (4 * 1) (nI (A 0)) (4 * i) = nI (A 0) := by
    intro i hi
    rcases (show i = 0 ∨ i = 1 by omega) with y | y
    · rw [y, pk_un (by omega), pk_us]
    · rw [y, pk_us]
  refine qn_v1 hc2 (t := A 0) (by omega) hS3 (by omega) (by omega) (W' := 2 ^ d) ?_ (by omega) trivial (fun P hP => qn_ch3 u2 (t := A 0) (by omega) u11 u10 (hj 0 (by omega)) (hj 1 (by omega)) u6 (by rw [← hc]; exact hP)) (fun c13 c14 c15 c16 fp''' ft''' fr''' fl''' a20''' a21''' a22''' a23''' a24''' a25''' a26''' a27''' hS4 => ?_)
  · rcases (show c = 0 ∨ c = 1 by omega) with y | y
    · rw [hd, y]
      rfl
    · rw [hd, y]
      rfl
  · rw [← hAc] at hS4 ⊢
    refine qn_sC hc2 (by omega) (by omega) (fun fg' fp' ft' fr' fl' a20' a21' a22' a23' a24' a25' a26' a27' a7' a8' a9' a13' a14' a15' a16' a17' a18' a19' hE => H _ _ _ _ _ _ _ _ _ _ _ _ _ _ _ _ _ _ _ _ _ _ _ hE) hS4 (by omega) ?_ ?_ ?_
    · rw [hAc]
      exact hj c hc2
    · rw [hAd, hAc]
      exact hj d (by omega)
    · rw [hAc]
      exact pk_us
end
end
section
/-! ===== a run ===== -/
/-- customer 0 is served first -/
def qn_ld (r : Nat) (A N : Nat → Nat) : Prop := A 0 < A 1 ∨ (A 1 = A 0 ∧ qn_fst r N = 0)
def qn_R (r : Nat) (A N : Nat → Nat) (a7 a8 a9 : Nat → Int32) : Prop :=
  (qn_ld r A N → qn_E A N 0 1 (max (A 0 + N 0) (A 1)) a7 a8 a9) ∧ (¬ qn_ld r A N → qn_E A N 1 0 (max (A 1 + N 1) (A 0)) a7 a8 a9)
theorem qn_run {post : St2 → Prop} {fc fg fe fp ft fr fl : Int32} {a1 a2 a3 a4 a5 a6 a7 a8 a9 a10 a11 a12 a13 a14 a15 a16 a17 a18 a19 a20 a21 a22 a23 a24 a25 a26 a27 : Nat → Int32} {e s r : Nat} {A N : Nat → Nat} (he : e < 4) (hK : qn_KK s r A N fc a1 a2 a3 a4 a5 a6)
    (H : ∀ (fe' fg' fp' ft' fr' fl' : Int32) (a20' a21' a22' a23' a24' a25' a26' a27' a7' a8' a9' a13' a14' a15' a16' a17' a18' a19' : Nat → Int32), qn_R r A N a7' a8' a9' → post (fc, fg', fe', fp', ft', fr', fl', a1, a2, a3, a4, a5, a6, a7', a8', a9', a10, a11, a12, a13', a14', a15', a16', a17', a18', a19', a20', a21', a22', a23', a24', a25', a26', a27')) : wpX_run post (fc, fg, fe, fp, ft, fr, fl, a1, a2, a3, a4, a5, a6, a7, a8, a9, a10, a11, a12, a13, a14, a15, a16, a17, a18, a19, a20, a21, a22, a23, a24, a25, a26, a27) (nI e) := by
  have hfc : fc = nI 2 := hK.2.2.1
  have hs : s < 4 := hK.1
  have h1 : ∀ i, i < 4 → a1 i = nI 1 := hK.2.2.2.1
  have m0 := hK.2.2.2.2.2 0 (by omega)
  have m1 := hK.2.2.2.2.2 1 (by omega)
  have hev : ∀ i, i < 2 → 32 * a3 (nI i).toNatClampNeg + 16 + nI i = nI (32 * A i + 16 + i) := by
    intro i hi
    rw [qn_at i (hK.2.2.2.2.2 i hi).2.2.2.1, show (32 : Int32) = nI 32 from rfl, show (16 : Int32) = nI 16 from rfl, pk_mul, nI_add, nI_add]
  unfold wpX_run
  refine qn_sQ (e := e) rfl (fun fp' ft' fr' fl' a20' a21' a22' a23' a24' a25' a26' a27' hQ => ?_)
  have main : ∀ b18 b19 : Nat → Int32, (∀ j, j < 4 → b18 j = nI 0) → (∀ j, j < 4 → b19 j = nI 1) → ∃ n, wX_run_48 post n (nI 0) fc 0 (nI e) fp' ft' fr' fl' a1 a2 a3 a4 a5 a6 a7 a8 a9 a10 a11 a12 a13 a14 a15 a16 a17 b18 b19 a20' a21' a22' a23' a24' a25' a26' a27' := by
    intro b18 b19 h18 h19
    refine ⟨3, br_f (by rw [hfc]; decide) ⟨pk_in 0 12 (by omega), qn_st 0 ⟨pk_in 0 12 (by omega), ?_⟩⟩⟩
    rw [hev 0 (by omega)]
    refine qn_add he hQ (by omega) (by omega) (by omega) trivial (fun fp'' ft'' fr'' fl'' a20'' a21'' a22'' a23'' a24'' a25'' a26'' a27'' hQ2 => nm_r (e' := nI 1) (by decide) ?_)
    refine br_f (by rw [hfc]; decide) ⟨pk_in 1 12 (by omega), qn_st 1 ⟨pk_in 1 12 (by omega), ?_⟩⟩
    rw [hev 1 (by omega)]
    have hnew : qn_new (32 * A 1 + 16 + 1) (qn_ins (32 * A 0 + 16 + 0) []) := by
      show (32 * A 1 + 16 + 1) % 16 ≠ (32 * A 0 + 16 + 0) % 16
      omega
    refine qn_add he hQ2 (by omega) (by omega) (by omega) hnew (fun fp''' ft''' fr''' fl''' a20''' a21''' a22''' a23''' a24''' a25''' a26''' a27''' hQ3 => nm_r (e' := nI 2) (by decide) ?_)
    refine br_t (by rw [hfc]; decide) ?_
    have v0 : upd (upd a17 0 0) 1 0 0 = nI 0 := by rw [pk_un (by omega), pk_us]; rfl
    have v1 : upd (upd a17 0 0) 1 0 1 = nI 0 := by rw [pk_us]; rfl
    have h9 : ∀ i, i < 4 → i ≠ s → b18 i = nI 0 := fun i hi _ => h18 i hi
    have hQ4 : qn_Q e 0 (if 32 * A 1 + 16 + 1 < 32 * A 0 + 16 + 0 then [32 * A 1 + 16 + 1, 32 * A 0 + 16 + 0] else [32 * A 0 + 16 + 0, 32 * A 1 + 16 + 1]) (nI e) fp''' ft''' fr''' fl''' a20''' a21''' a22''' a23''' a24''' a25''' a26''' a27''' := hQ3
    rcases Nat.lt_trichotomy (A 0) (A 1) with y | y | y
    · rw [if_neg (by omega)] at hQ4
      refine ⟨5, qn_sA (c := 0) (d := 1) (g := 0) (by omega) (by omega) (by omega) y (fun fg' fp' ft' fr' fl' a20' a21' a22' a23' a24' a25' a26' a27' a7' a8' a9' a13' a14' a15' a16' a17' a18' a19' hE => H _ _ _ _ _ _ _ _ _ _ _ _ _ _ _ _ _ _ _ _ _ _ _ _ ⟨fun _ => hE, fun z => absurd (Or.inl y) z⟩) ⟨he, hK, hQ4, rfl, by omega, h18 s hs, by omega, h19 s hs, h9, v0, v1⟩ (by omega)⟩
    · rw [if_neg (by omega)] at hQ4
      have hf2 : qn_fst r N = 0 ∨ qn_fst r N = 1 := by
        unfold qn_fst
        split
        · exact Or.inr rfl
        · exact Or.inl rfl
      refine ⟨4, qn_sA2 (c := qn_fst r N) (d := 1 - qn_fst r N) (g := 0) rfl rfl y.symm (fun fg' fp' ft' fr' fl' a20' a21' a22' a23' a24' a25' a26' a27' a7' a8' a9' a13' a14' a15' a16' a17' a18' a19' hE => H _ _ _ _ _ _ _ _ _ _ _ _ _ _ _ _ _ _ _ _ _ _ _ _ ⟨fun z => ?_, fun z => ?_⟩) ⟨he, hK, hQ4, rfl, by omega, h18 s hs, by omega, h19 s hs, h9, v0, v1⟩ (by omega)⟩
      · have w : qn_fst r N = 0 := by
          rcases z with z | z
          · omega
          · exact z.2
        rw [w] at hE
        rw [Nat.max_eq_left (by omega)]
        exact hE
      · have w : qn_fst r N = 1 := by
          rcases hf2 with w | w
          · exact absurd (Or.inr ⟨y.symm, w⟩) z
          · exact w
        rw [w] at hE
        rw [Nat.max_eq_left (by omega)]
        exact hE
    · rw [if_pos (by omega)] at hQ4
      refine ⟨5, qn_sA (c := 1) (d := 0) (g := 0) (by omega) (by omega) (by omega) y (fun fg' fp' ft' fr' fl' a20' a21' a22' a23' a24' a25' a26' a27' a7' a8' a9' a13' a14' a15' a16' a17' a18' a19' hE => H _ _ _ _ _ _ _ _ _ _ _ _ _ _ _ _ _ _ _ _ _ _ _ _ ⟨fun z => ?_, fun _ => hE⟩) ⟨he, hK, hQ4, rfl, by omega, h18 s hs, by omega, h19 s hs, h9, v1, v0⟩ (by omega)⟩
      exfalso
      rcases z with z | z
      · omega
      · omega
  refine pk_loop (fun n i (s : (Nat → Int32) × (Nat → Int32)) => wX_run_16 post fc 0 (nI e) fp' ft' fr' fl' n (nI i) a1 a2 a3 a4 a5 a6 a7 a8 a9 a10 a11 a12 a13 a14 a15 a16 a17 (s.1) (s.2) a20' a21' a22' a23' a24' a25' a26' a27') (fun i s => (∀ j, j < i → s.1 j = nI 0) ∧ (∀ j, j < i → s.2 j = nI 1)) 4 0 (a18, a19) (by omega) ⟨fun j hj => absurd hj (by omega), fun j hj => absurd hj (by omega)⟩
    (fun n s h => pk_le 4 4 (fun _ => main s.1 s.2 h.1 h.2) (fun z => absurd z (by omega)))
    (fun n i s hi h hw => pk_le 4 i (fun z => absurd z (by omega)) (fun _ => ⟨pk_in i 4 hi, qn_st i (w := nI 0) ⟨pk_in i 4 hi, pk_in i 4 hi, qn_st i (w := nI 1) (nm_r (nI_1 i) (hw (upd s.1 i (nI 0), upd s.2 i (nI 1)) ⟨qn_fill rfl h.1, qn_fill rfl h.2⟩)) (hv := ?_)⟩⟩))
  rw [qn_at i (h1 i hi)]
  exact qn_nar (by omega)
end
section
/-! ===== the answers ===== -/
theorem qn_isC {post : Int32 → Prop} {fc fg fe fp ft fr fl : Int32} {a1 a2 a3 a4 a5 a6 a7 a8 a9 a10 a11 a12 a13 a14 a15 a16 a17 a18 a19 a20 a21 a22 a23 a24 a25 a26 a27 : Nat → Int32} {c : Nat} (hc : c < 2) (hfc : fc = nI 2) (H : post 1) : wpX_isCustomer post (fc, fg, fe, fp, ft, fr, fl, a1, a2, a3, a4, a5, a6, a7, a8, a9, a10, a11, a12, a13, a14, a15, a16, a17, a18, a19, a20, a21, a22, a23, a24, a25, a26, a27) (nI c) :=
  br_f (nI_pos (by omega)) (br_f (by rw [hfc]; exact nI_ge hc (by omega)) H)
theorem qn_isS {post : Int32 → Prop} {s : Nat} (hs : s < 4) (H : post 1) : wpX_isStation post () (nI s) :=
  br_f (nI_pos (by omega)) (br_f (nI_ge (b := 4) hs (by omega)) H)
theorem qn_isE {post : Int32 → Prop} {s : Nat} (hs : s < 4) (H : post 1) : wpX_isEngine post () (nI s) :=
  br_f (nI_pos (by omega)) (br_f (nI_ge (b := 4) hs (by omega)) H)
theorem qn_isV {post : Int32 → Prop} {fc fg fe fp ft fr fl : Int32} {a1 a2 a3 a4 a5 a6 a7 a8 a9 a10 a11 a12 a13 a14 a15 a16 a17 a18 a19 a20 a21 a22 a23 a24 a25 a26 a27 : Nat → Int32} {c : Nat} (hc : c < 2) (hfc : fc = nI 2) (h4 : a4 c = nI 1) (H : post 1) : wpX_isVisit post (fc, fg, fe, fp, ft, fr, fl, a1, a2, a3, a4, a5, a6, a7, a8, a9, a10, a11, a12, a13, a14, a15, a16, a17, a18, a19, a20, a21, a22, a23, a24, a25, a26, a27) (nI c) (nI 0) := by
  unfold wpX_isVisit
  exact qn_isC hc hfc (br_f (by decide) (br_f (by decide) ⟨pk_in c 12 (by omega), br_f (by rw [qn_at c h4]; decide) H⟩))
section
variable {s r : Nat} {A N : Nat → Nat}
theorem qn_begins {post : Int32 → St2 → Prop} {fc fg fe fp ft fr fl : Int32} {a1 a2 a3 a4 a5 a6 a7 a8 a9 a10 a11 a12 a13 a14 a15 a16 a17 a18 a19 a20 a21 a22 a23 a24 a25 a26 a27 : Nat → Int32} {c : Nat} (hK : qn_KK s r A N fc a1 a2 a3 a4 a5 a6) (hc : c < 2)
    (H : ∀ (fe' fg' fp' ft' fr' fl' : Int32) (a20' a21' a22' a23' a24' a25' a26' a27' a7' a8' a9' a13' a14' a15' a16' a17' a18' a19' : Nat → Int32), qn_R r A N a7' a8' a9' → post (a8' (4 * c)) (fc, fg', fe', fp', ft', fr', fl', a1, a2, a3, a4, a5, a6, a7', a8', a9', a10, a11, a12, a13', a14', a15', a16', a17', a18', a19', a20', a21', a22', a23', a24', a25', a26', a27')) : wpX_begins post (fc, fg, fe, fp, ft, fr, fl, a1, a2, a3, a4, a5, a6, a7, a8, a9, a10, a11, a12, a13, a14, a15, a16, a17, a18, a19, a20, a21, a22, a23, a24, a25, a26, a27) (nI c) (nI 0) := by
  have m := hK.2.2.2.2.2 c hc
  have h4 : nI c * 4 + nI 0 = nI (4 * c) := qn_c4 rfl
  unfold wpX_begins
  refine qn_isV hc hK.2.2.1 m.2.2.2.2.1 (br_f (by decide) ?_)
  refine qn_run (e := 3) (by omega) hK (fun fe' fg' fp' ft' fr' fl' a20' a21' a22' a23' a24' a25' a26' a27' a7' a8' a9' a13' a14' a15' a16' a17' a18' a19' hR => ⟨pk_in (4 * c) 48 (by omega) h4, ?_⟩)
  rw [h4, nI_clamp (by omega)]
  exact H _ _ _ _ _ _ _ _ _ _ _ _ _ _ _ _ _ _ _ _ _ _ _ _ hR
theorem qn_leaves {post : Int32 → St2 → Prop} {fc fg fe fp ft fr fl : Int32} {a1 a2 a3 a4 a5 a6 a7 a8 a9 a10 a11 a12 a13 a14 a15 a16 a17 a18 a19 a20 a21 a22 a23 a24 a25 a26 a27 : Nat → Int32} {e : Nat} (hK : qn_KK s r A N fc a1 a2 a3 a4 a5 a6) (he : e < 4)
    (H : ∀ (fe' fg' fp' ft' fr' fl' : Int32) (a20' a21' a22' a23' a24' a25' a26' a27' a7' a8' a9' a13' a14' a15' a16' a17' a18' a19' : Nat → Int32), qn_R r A N a7' a8' a9' → post (a9' 0) (fc, fg', fe', fp', ft', fr', fl', a1, a2, a3, a4, a5, a6, a7', a8', a9', a10, a11, a12, a13', a14', a15', a16', a17', a18', a19', a20', a21', a22', a23', a24', a25', a26', a27')) : wpX_leaves post (fc, fg, fe, fp, ft, fr, fl, a1, a2, a3, a4, a5, a6, a7, a8, a9, a10, a11, a12, a13, a14, a15, a16, a17, a18, a19, a20, a21, a22, a23, a24, a25, a26, a27) (nI e) (nI 0) := by
  unfold wpX_leaves
  refine qn_isE he (br_f (by decide) (qn_isC (c := 0) (by omega) hK.2.2.1 (br_f (by decide) ?_)))
  refine qn_run he hK (fun fe' fg' fp' ft' fr' fl' a20' a21' a22' a23' a24' a25' a26' a27' a7' a8' a9' a13' a14' a15' a16' a17' a18' a19' hR => ⟨pk_in 0 12 (by omega), ?_⟩)
  rw [nI_clamp (by omega)]
  exact H _ _ _ _ _ _ _ _ _ _ _ _ _ _ _ _ _ _ _ _ _ _ _ _ hR
/-- what a run leaves, in plain numbers: when each begins -/
theorem qn_RN {a7 a8 a9 : Nat → Int32} (h : qn_R r A N a7 a8 a9) : ∃ b : Nat → Nat, (∀ i, i < 2 → a7 (4 * i) = nI (A i) ∧ a8 (4 * i) = nI (b i) ∧ a9 i = nI (b i + N i)) ∧
    (qn_ld r A N → b 0 = A 0 ∧ b 1 = max (A 0 + N 0) (A 1)) ∧ (¬ qn_ld r A N → b 1 = A 1 ∧ b 0 = max (A 1 + N 1) (A 0)) := by
  by_cases y : qn_ld r A N
  · obtain ⟨h1, h2, h3, h4, h5, h6⟩ := h.1 y
    refine ⟨fun i => if i = 0 then A 0 else max (A 0 + N 0) (A 1), fun i hi => ?_, fun _ => ⟨rfl, rfl⟩, fun z => absurd y z⟩
    rcases (show i = 0 ∨ i = 1 by omega) with z | z
    · subst z
      exact ⟨h1, h3, h5⟩
    · subst z
      exact ⟨h2, h4, h6⟩
  · obtain ⟨h1, h2, h3, h4, h5, h6⟩ := h.2 y
    refine ⟨fun i => if i = 1 then A 1 else max (A 1 + N 1) (A 0), fun i hi => ?_, fun z => absurd z y, fun _ => ⟨rfl, rfl⟩⟩
    rcases (show i = 0 ∨ i = 1 by omega) with z | z
    · subst z
      exact ⟨h2, h4, h6⟩
    · subst z
      exact ⟨h1, h3, h5⟩
theorem qn_s29 {post : Int32 → St2 → Prop} {J : Int32 → Int32 → Prop} {fc fg fe fp ft fr fl : Int32} {a1 a2 a3 a4 a5 a6 a7 a8 a9 a10 a11 a12 a13 a14 a15 a16 a17 a18 a19 a20 a21 a22 a23 a24 a25 a26 a27 : Nat → Int32} {c : Nat} {x : Int32} (hK : qn_KK s r A N fc a1 a2 a3 a4 a5 a6) (hc : c < 2)
    (H : J (x + (a8 (4 * c) + a6 (4 * c) - a7 (4 * c))) (nI (c + 1))) : ∃ n, wX_stays_29 post J (nI s) (nI c) fc fg fe fp ft fr fl a1 a2 a3 a4 a5 a6 a7 a8 a9 a10 a11 a12 a13 a14 a15 a16 a17 a18 a19 a20 a21 a22 a23 a24 a25 a26 a27 n x (nI 0) := by
  have m := hK.2.2.2.2.2 c hc
  have h4 : nI c * 4 + nI 0 = nI (4 * c) := qn_c4 rfl
  refine ⟨2, pk_in c 12 (by omega), br_f (by rw [qn_at c m.2.2.2.2.1]; decide) (nm_r h4 ⟨pk_in (4 * c) 48 (by omega), br_t (qn_at (4 * c) m.2.2.2.2.2.1) ⟨pk_in (4 * c) 48 (by omega), pk_in (4 * c) 48 (by omega), pk_in (4 * c) 48 (by omega), ?_⟩⟩)⟩
  rw [nI_clamp (show 4 * c < 2 ^ 31 by omega)]
  refine nm_e (nm_r (e' := nI 1) (by decide) ⟨pk_in c 12 (by omega), br_t (by rw [qn_at c m.2.2.2.2.1]; decide) (nm_r (nI_1 c) H)⟩)
theorem qn_stays {post : Int32 → St2 → Prop} {fc fg fe fp ft fr fl : Int32} {a1 a2 a3 a4 a5 a6 a7 a8 a9 a10 a11 a12 a13 a14 a15 a16 a17 a18 a19 a20 a21 a22 a23 a24 a25 a26 a27 : Nat → Int32} (hK : qn_KK s r A N fc a1 a2 a3 a4 a5 a6)
    (H : ∀ (fe' fg' fp' ft' fr' fl' : Int32) (a20' a21' a22' a23' a24' a25' a26' a27' a7' a8' a9' a13' a14' a15' a16' a17' a18' a19' : Nat → Int32), qn_R r A N a7' a8' a9' → post (0 + (a8' (4 * 0) + a6 (4 * 0) - a7' (4 * 0)) + (a8' (4 * 1) + a6 (4 * 1) - a7' (4 * 1))) (fc, fg', fe', fp', ft', fr', fl', a1, a2, a3, a4, a5, a6, a7', a8', a9', a10, a11, a12, a13', a14', a15', a16', a17', a18', a19', a20', a21', a22', a23', a24', a25', a26', a27')) : wpX_stays post (fc, fg, fe, fp, ft, fr, fl, a1, a2, a3, a4, a5, a6, a7, a8, a9, a10, a11, a12, a13, a14, a15, a16, a17, a18, a19, a20, a21, a22, a23, a24, a25, a26, a27) (nI s) := by
  unfold wpX_stays
  refine qn_isS hK.1 (br_f (by decide) ?_)
  refine qn_run (e := 2) (by omega) hK (fun fe' fg' fp' ft' fr' fl' a20' a21' a22' a23' a24' a25' a26' a27' a7' a8' a9' a13' a14' a15' a16' a17' a18' a19' hR => ?_)
  refine ⟨3, br_f (by rw [hK.2.2.1]; decide) (qn_s29 (c := 0) hK (by omega) ?_)⟩
  refine br_f (by rw [hK.2.2.1]; decide) (qn_s29 (c := 1) hK (by omega) ?_)
  exact br_t (by rw [hK.2.2.1]; decide) (H _ _ _ _ _ _ _ _ _ _ _ _ _ _ _ _ _ _ _ _ _ _ _ _ hR)
theorem qn_o30 {post : Int32 → St2 → Prop} {J : Int32 → Prop} {fc fg fe fp ft fr fl : Int32} {a1 a2 a3 a4 a5 a6 a7 a8 a9 a10 a11 a12 a13 a14 a15 a16 a17 a18 a19 a20 a21 a22 a23 a24 a25 a26 a27 : Nat → Int32} {i j m n : Nat} {x1 : Int32} {v : Nat → Nat} (hfc : fc = nI 2) (hi : i < 2) (hj : j < 2) (hv : ∀ i, i < 2 → a9 i = nI (v i) ∧ v i < 10000)
    (H : ∀ k, (v j < v i ∨ (v j = v i ∧ j < i) → k = 1) → (¬ (v j < v i ∨ (v j = v i ∧ j < i)) → k = 0) → wX_order_30 post J x1 (nI i) fc fg fe fp ft fr fl a1 a2 a3 a4 a5 a6 a7 a8 a9 a10 a11 a12 a13 a14 a15 a16 a17 a18 a19 a20 a21 a22 a23 a24 a25 a26 a27 n (nI (m + k)) (nI (j + 1))) : wX_order_30 post J x1 (nI i) fc fg fe fp ft fr fl a1 a2 a3 a4 a5 a6 a7 a8 a9 a10 a11 a12 a13 a14 a15 a16 a17 a18 a19 a20 a21 a22 a23 a24 a25 a26 a27 (n + 1) (nI m) (nI j) := by
  obtain ⟨i1, i2⟩ := hv i hi
  obtain ⟨j1, j2⟩ := hv j hj
  refine br_f (by rw [hfc]; exact nI_ge hj (by omega)) ⟨pk_in j 12 (by omega), pk_in i 12 (by omega), pk_lt (v j) (v i) (fun y => ?_) (fun y => ⟨pk_in j 12 (by omega), pk_in i 12 (by omega), pk_eq (v j) (v i) (fun y2 => pk_le i j (fun y3 => ?_) (fun y3 => ?_)) (fun y2 => ?_) (qn_at j j1) (qn_at i i1)⟩) (qn_at j j1) (qn_at i i1)⟩
  · exact br_f (by decide) (nm_r (nI_1 m) (nm_r (nI_1 j) (H 1 (fun _ => rfl) (fun z => absurd (Or.inl y) z))))
  · exact br_t rfl (nm_r (e' := nI (m + 0)) (nI_add m 0) (nm_r (nI_1 j) (H 0 (fun z => by omega) (fun _ => rfl))))
  · exact br_f (by decide) (nm_r (nI_1 m) (nm_r (nI_1 j) (H 1 (fun _ => rfl) (fun z => absurd (Or.inr ⟨y2, y3⟩) z))))
  · exact br_t rfl (nm_r (e' := nI (m + 0)) (nI_add m 0) (nm_r (nI_1 j) (H 0 (fun z => by omega) (fun _ => rfl))))
theorem qn_order {post : Int32 → St2 → Prop} {fc fg fe fp ft fr fl : Int32} {a1 a2 a3 a4 a5 a6 a7 a8 a9 a10 a11 a12 a13 a14 a15 a16 a17 a18 a19 a20 a21 a22 a23 a24 a25 a26 a27 : Nat → Int32} (hK : qn_KK s r A N fc a1 a2 a3 a4 a5 a6)
    (H : ∀ (fe' fg' fp' ft' fr' fl' : Int32) (a20' a21' a22' a23' a24' a25' a26' a27' a7' a8' a9' a13' a14' a15' a16' a17' a18' a19' : Nat → Int32), qn_R r A N a7' a8' a9' → ∀ (v : Nat → Nat) (k : Nat), (∀ i, i < 2 → a9' i = nI (v i) ∧ v i < 10000) → (v 1 < v 0 → k = 1) → (v 0 ≤ v 1 → k = 0) → post (nI k) (fc, fg', fe', fp', ft', fr', fl', a1, a2, a3, a4, a5, a6, a7', a8', a9', a10, a11, a12, a13', a14', a15', a16', a17', a18', a19', a20', a21', a22', a23', a24', a25', a26', a27')) : wpX_order post (fc, fg, fe, fp, ft, fr, fl, a1, a2, a3, a4, a5, a6, a7, a8, a9, a10, a11, a12, a13, a14, a15, a16, a17, a18, a19, a20, a21, a22, a23, a24, a25, a26, a27) (nI 0) := by
  have hfc : fc = nI 2 := hK.2.2.1
  unfold wpX_order
  refine qn_isC (c := 0) (by omega) hfc (br_f (by decide) ?_)
  refine qn_run (e := 2) (by omega) hK (fun fe' fg' fp' ft' fr' fl' a20' a21' a22' a23' a24' a25' a26' a27' a7' a8' a9' a13' a14' a15' a16' a17' a18' a19' hR => ?_)
  obtain ⟨b, hb1, hb2, hb3⟩ := qn_RN hR
  have n0 := qn_KN hK (c := 0) (by omega)
  have n1 := qn_KN hK (c := 1) (by omega)
  have hv : ∀ i, i < 2 → a9' i = nI (b i + N i) ∧ b i + N i < 10000 := by
    intro i hi
    refine ⟨(hb1 i hi).2.2, ?_⟩
    have hbb : b 0 ≤ 200 ∧ b 1 ≤ 200 := by
      by_cases y : qn_ld r A N
      · have := hb2 y
        omega
      · have := hb3 y
        omega
    rcases (show i = 0 ∨ i = 1 by omega) with y | y
    · subst y
      omega
    · subst y
      omega
  have H' := H fe' fg' fp' ft' fr' fl' a20' a21' a22' a23' a24' a25' a26' a27' a7' a8' a9' a13' a14' a15' a16' a17' a18' a19' hR (fun i => b i + N i)
  refine ⟨2, br_f (by rw [hfc]; decide) ⟨3, qn_o30 (i := 0) (j := 0) (m := 0) (v := fun i => b i + N i) hfc (by omega) (by omega) hv (fun k1 p1 p2 => qn_o30 (i := 0) (j := 1) (v := fun i => b i + N i) hfc (by omega) (by omega) hv (fun k2 p3 p4 => ?_))⟩⟩
  refine br_t (by rw [hfc]; decide) (pk_eq (0 + k1 + k2) 0 (fun z => ?_) (fun z => nm_r (e' := nI 1) (by decide) ?_) (ha := by omega))
  · exact H' 0 hv (fun y => by omega) (fun _ => rfl)
  · refine br_f (by rw [hfc]; decide) ⟨3, qn_o30 (i := 1) (j := 0) (m := 0) (v := fun i => b i + N i) hfc (by omega) (by omega) hv (fun k3 p5 p6 => qn_o30 (i := 1) (j := 1) (v := fun i => b i + N i) hfc (by omega) (by omega) hv (fun k4 p7 p8 => ?_))⟩
    refine br_t (by rw [hfc]; decide) (pk_eq (0 + k3 + k4) 0 (fun z2 => ?_) (fun z2 => ?_) (ha := by omega))
    · exact H' 1 hv (fun _ => rfl) (fun y => by omega)
    · exfalso
      omega
end
end
section
/-! ===== the law's object is made and filled ===== -/
theorem qn_init {post : St2 → Prop} (H : ∀ a1 : Nat → Int32, (∀ i, i < 4 → a1 i = nI 1) → post (0, 0, 0, 0, 0, 0, 0, a1, fun _ => 0, fun _ => 0, fun _ => 0, fun _ => 0, fun _ => 0, fun _ => 0, fun _ => 0, fun _ => 0, fun _ => 0, fun _ => 0, fun _ => 0, fun _ => 0, fun _ => 0, fun _ => 0, fun _ => 0, fun _ => 0, fun _ => 0, fun _ => 0, fun _ => 0, fun _ => 0, fun _ => 0, fun _ => 0, fun _ => 0, fun _ => 0, fun _ => 0, fun _ => 0)) : wpX_init post 27 1120 (0, 0, 0, 0, 0, 0, 0) := by
  refine ⟨by decide, by decide, by decide, by decide, by decide, by decide, by decide, by decide, by decide, by decide, by decide, by decide, by decide, by decide, by decide, by decide, by decide, by decide, by decide, by decide, by decide, by decide, by decide, by decide, by decide, by decide, by decide, by decide, by decide, by decide, by decide, by decide, by decide, by decide, by decide, by decide, by decide, by decide, by decide, by decide, by decide, by decide, by decide, by decide, by decide, by decide, by decide, by decide, by decide, by decide, by decide, by decide, by decide, by decide, ?_⟩
  exact pk_loop (fun n i s => wX_init_222 post 27 1120 27 1120 0 0 0 0 0 0 0 n (nI i) s (fun _ => 0) (fun _ => 0) (fun _ => 0) (fun _ => 0) (fun _ => 0) (fun _ => 0) (fun _ => 0) (fun _ => 0) (fun _ => 0) (fun _ => 0) (fun _ => 0) (fun _ => 0) (fun _ => 0) (fun _ => 0) (fun _ => 0) (fun _ => 0) (fun _ => 0) (fun _ => 0) (fun _ => 0) (fun _ => 0) (fun _ => 0) (fun _ => 0) (fun _ => 0) (fun _ => 0) (fun _ => 0) (fun _ => 0) ) (fun i s => ∀ j, j < i → s j = nI 1) 4 0 (fun _ => 0) (by omega) (fun j hj => absurd hj (by omega))
    (fun n s h => pk_le 4 4 (fun _ => H s h) (fun z => absurd z (by omega)))
    (fun n i s hi h hw => pk_le 4 i (fun z => absurd z (by omega)) (fun _ => ⟨pk_in i 4 hi, qn_st i (w := nI 1) (nm_r (nI_1 i) (hw _ (qn_fill rfl h)))⟩))
theorem qn_station {post : Int32 → St2 → Prop} {fc fg fe fp ft fr fl : Int32} {a1 a2 a3 a4 a5 a6 a7 a8 a9 a10 a11 a12 a13 a14 a15 a16 a17 a18 a19 a20 a21 a22 a23 a24 a25 a26 a27 : Nat → Int32} {s r : Nat} (hs : s < 4) (hr : r < 3) (H : ∀ x, post x (fc, fg, fe, fp, ft, fr, fl, upd a1 s (nI 1), upd a2 s (nI r), a3, a4, a5, a6, a7, a8, a9, a10, a11, a12, a13, a14, a15, a16, a17, a18, a19, a20, a21, a22, a23, a24, a25, a26, a27)) : wpX_station post (fc, fg, fe, fp, ft, fr, fl, a1, a2, a3, a4, a5, a6, a7, a8, a9, a10, a11, a12, a13, a14, a15, a16, a17, a18, a19, a20, a21, a22, a23, a24, a25, a26, a27) (nI s) 1 (nI r) := by
  unfold wpX_station
  exact qn_isS hs (br_f (by decide) (br_f (by decide) (br_f (by decide) (br_f (nI_pos (by omega)) (br_t (nI_le (b := 2) (by omega) (by omega)) ⟨pk_in s 4 hs, qn_st s (w := nI 1) ⟨pk_in s 4 hs, qn_st s (H _) (hv := qn_b r (by omega))⟩ (hv := qn_b 1 (by omega))⟩)))))
theorem qn_arrive {post : Int32 → St2 → Prop} {fc fg fe fp ft fr fl : Int32} {a1 a2 a3 a4 a5 a6 a7 a8 a9 a10 a11 a12 a13 a14 a15 a16 a17 a18 a19 a20 a21 a22 a23 a24 a25 a26 a27 : Nat → Int32} {k t : Nat} (hk : k < 12) (hfc : fc = nI k) (ht : t ≤ 100) (H : ∀ x, post x (nI (k + 1), fg, fe, fp, ft, fr, fl, a1, a2, upd a3 k (nI t), upd a4 k (nI 0), a5, a6, a7, a8, a9, a10, a11, a12, a13, a14, a15, a16, a17, a18, a19, a20, a21, a22, a23, a24, a25, a26, a27)) : wpX_arrive post (fc, fg, fe, fp, ft, fr, fl, a1, a2, a3, a4, a5, a6, a7, a8, a9, a10, a11, a12, a13, a14, a15, a16, a17, a18, a19, a20, a21, a22, a23, a24, a25, a26, a27) (nI t) := by
  subst hfc
  exact br_f (nI_pos (by omega)) (br_t (nI_le (b := 100) ht (by omega)) (br_t (nI_lt (b := 12) hk (by omega)) ⟨pk_in k 12 hk, qn_st k ⟨pk_in k 12 hk, qn_st k (w := nI 0) (nm_r (nI_1 k) (H _))⟩ (hv := qn_b t (by omega))⟩))
theorem qn_visit {post : Int32 → St2 → Prop} {fc fg fe fp ft fr fl : Int32} {a1 a2 a3 a4 a5 a6 a7 a8 a9 a10 a11 a12 a13 a14 a15 a16 a17 a18 a19 a20 a21 a22 a23 a24 a25 a26 a27 : Nat → Int32} {c s p : Nat} (hc : c < 2) (hfc : fc = nI 2) (hs : s < 4) (hp1 : 1 ≤ p) (hp2 : p ≤ 30) (h4 : a4 c = nI 0)
    (H : ∀ x, post x (fc, fg, fe, fp, ft, fr, fl, a1, a2, a3, upd a4 c (nI 1), upd a5 (4 * c) (nI s), upd a6 (4 * c) (nI p), a7, a8, a9, a10, a11, a12, a13, a14, a15, a16, a17, a18, a19, a20, a21, a22, a23, a24, a25, a26, a27)) : wpX_visit post (fc, fg, fe, fp, ft, fr, fl, a1, a2, a3, a4, a5, a6, a7, a8, a9, a10, a11, a12, a13, a14, a15, a16, a17, a18, a19, a20, a21, a22, a23, a24, a25, a26, a27) (nI c) (nI s) (nI p) := by
  unfold wpX_visit
  refine qn_isC hc hfc (br_f (by decide) (qn_isS hs (br_f (by decide) (br_f (nI_nlt (b := 1) hp1 (by omega)) (br_t (nI_le (b := 30) hp2 (by omega)) ⟨pk_in c 12 (by omega), br_t ?_ ⟨pk_in c 12 (by omega), nm_r (qn_c4 (qn_at c h4)) ⟨pk_in (4 * c) 48 (by omega), qn_st (4 * c) ⟨pk_in (4 * c) 48 (by omega), qn_st (4 * c) ⟨pk_in c 12 (by omega), pk_in c 12 (by omega), qn_st c (w := nI 1) ⟨pk_in c 12 (by omega), H _⟩ (hv := ?_)⟩ (hv := qn_b p (by omega))⟩ (hv := qn_b s (by omega))⟩⟩⟩)))))
  · rw [qn_at c h4]
    decide
  · rw [qn_at c h4]
    exact qn_inc 0 (by omega)
/-! ===== the plain law ===== -/
def qn_one (r : Nat) (A N : Nat → Nat) : Nat := if A 0 < A 1 ∨ (A 1 = A 0 ∧ qn_fst r N = 0) then A 0 else max (A 1 + N 1) (A 0)
def qn_two (r : Nat) (A N : Nat → Nat) : Nat := if A 0 < A 1 ∨ (A 1 = A 0 ∧ qn_fst r N = 0) then max (A 0 + N 0) (A 1) else A 1
theorem qn_RV {r : Nat} {A N : Nat → Nat} {a7 a8 a9 : Nat → Int32} (h : qn_R r A N a7 a8 a9) :
    a7 (4 * 0) = nI (A 0) ∧ a7 (4 * 1) = nI (A 1) ∧ a8 (4 * 0) = nI (qn_one r A N) ∧ a8 (4 * 1) = nI (qn_two r A N) ∧ a9 0 = nI (qn_one r A N + N 0) ∧ a9 1 = nI (qn_two r A N + N 1) := by
  by_cases y : qn_ld r A N
  · obtain ⟨h1, h2, h3, h4, h5, h6⟩ := h.1 y
    have e1 : qn_one r A N = A 0 := if_pos y
    have e2 : qn_two r A N = max (A 0 + N 0) (A 1) := if_pos y
    rw [e1, e2]
    exact ⟨h1, h2, h3, h4, h5, h6⟩
  · obtain ⟨h1, h2, h3, h4, h5, h6⟩ := h.2 y
    have e1 : qn_one r A N = max (A 1 + N 1) (A 0) := if_neg y
    have e2 : qn_two r A N = A 1 := if_neg y
    rw [e1, e2]
    exact ⟨h2, h1, h4, h3, h6, h5⟩
section
variable {post : Int32 → St0 → Prop} {mc ms kc ks : Nat}
theorem qn_272 {A0 A1 P Q o w k : Nat} {x12 x13 x14 x15 x16 x18 z0 : Int32} (H : post 1 ()) (h12 : x12 = nI o) (h13 : x13 = nI w) (h14 : x14 = nI (o + P)) (h15 : x15 = 0 + (nI o + nI P - nI A0) + (nI w + nI Q - nI A1)) (h16 : x16 = nI k) (h18 : x18 = nI o) (hz : z0 = nI w)
    (ho : o + P < 10000) (hw : w + Q < 10000) (hk1 : w + Q < o + P → k = 1) (hk0 : o + P ≤ w + Q → k = 0) : wL_lawOf_272 post mc ms (nI A0) (nI A1) (nI P) (nI Q) x12 x13 x14 x15 x16 x18 z0 kc ks := by
  subst h12 h13 h14 h15 h16 h18 hz
  refine nm_r (nI_add o P) (nm_r (nI_add w Q) (br_t rfl (br_t rfl (br_t rfl (br_t ?_ (pk_lt (w + Q) (o + P) (fun y => br_t (by rw [hk1 y]; rfl) H) (fun y => br_t (by rw [hk0 y]; rfl) H)))))))
  rw [← nI_add o P, ← nI_add w Q]
  grind
theorem qn_213 {A0 A1 P Q o w k : Nat} {x12 x13 x14 x15 x16 : Int32} (H : post 1 ()) (h12 : x12 = nI o) (h13 : x13 = nI w) (h14 : x14 = nI (o + P)) (h15 : x15 = 0 + (nI o + nI P - nI A0) + (nI w + nI Q - nI A1)) (h16 : x16 = nI k)
    (ho : o = A0) (hw : w = max (A0 + P) A1) (hA0 : A0 ≤ 100) (hA1 : A1 ≤ 100) (hP : P ≤ 30) (hQ : Q ≤ 30) (hk1 : w + Q < o + P → k = 1) (hk0 : o + P ≤ w + Q → k = 0) : wL_lawOf_213 post mc ms (nI A0) (nI A1) (nI P) (nI Q) x12 x13 x14 x15 x16 kc ks := by
  refine br_f (by decide) (br_f (by decide) (pk_lt A1 (A0 + P) (fun y => ?_) (fun y => ?_) (hy := nI_add A0 P)))
  · exact qn_272 H h12 h13 h14 h15 h16 (by rw [ho]) (by rw [nI_add, hw, Nat.max_eq_left (by omega)]) (by omega) (by omega) hk1 hk0
  · exact qn_272 H h12 h13 h14 h15 h16 (by rw [ho]) (by rw [hw, Nat.max_eq_right (by omega)]) (by omega) (by omega) hk1 hk0
theorem qn_217 {A0 A1 P Q o w k : Nat} {x12 x13 x14 x15 x16 : Int32} (H : post 1 ()) (h12 : x12 = nI o) (h13 : x13 = nI w) (h14 : x14 = nI (o + P)) (h15 : x15 = 0 + (nI o + nI P - nI A0) + (nI w + nI Q - nI A1)) (h16 : x16 = nI k)
    (ho : o = max (A1 + Q) A0) (hw : w = A1) (hA0 : A0 ≤ 100) (hA1 : A1 ≤ 100) (hP : P ≤ 30) (hQ : Q ≤ 30) (hk1 : w + Q < o + P → k = 1) (hk0 : o + P ≤ w + Q → k = 0) : wL_lawOf_217 post mc ms (nI A0) (nI A1) (nI P) (nI Q) x12 x13 x14 x15 x16 kc ks := by
  refine br_t (by decide) (pk_lt A0 (A1 + Q) (fun y => ?_) (fun y => ?_) (hy := nI_add A1 Q))
  · exact br_t (by decide) (qn_272 H h12 h13 h14 h15 h16 (by rw [nI_add, ho, Nat.max_eq_left (by omega)]) (by rw [hw]) (by omega) (by omega) hk1 hk0)
  · exact br_t (by decide) (qn_272 H h12 h13 h14 h15 h16 (by rw [ho, Nat.max_eq_right (by omega)]) (by rw [hw]) (by omega) (by omega) hk1 hk0)
theorem qn_last {r k : Nat} {A N : Nat → Nat} {x12 x13 x14 x15 x16 : Int32} (H : post 1 ()) (hr : r < 3) (hA : ∀ i, i < 2 → A i ≤ 100 ∧ N i ≤ 30) (h12 : x12 = nI (qn_one r A N)) (h13 : x13 = nI (qn_two r A N)) (h14 : x14 = nI (qn_one r A N + N 0))
    (h15 : x15 = 0 + (nI (qn_one r A N) + nI (N 0) - nI (A 0)) + (nI (qn_two r A N) + nI (N 1) - nI (A 1))) (h16 : x16 = nI k) (hk1 : qn_two r A N + N 1 < qn_one r A N + N 0 → k = 1) (hk0 : qn_one r A N + N 0 ≤ qn_two r A N + N 1 → k = 0) :
    ((nI (A 0) < nI (A 1) → wL_lawOf_213 post mc ms (nI (A 0)) (nI (A 1)) (nI (N 0)) (nI (N 1)) x12 x13 x14 x15 x16 kc ks) ∧ (¬ nI (A 0) < nI (A 1) →
      ((nI (A 0) = nI (A 1) → ((nI r = 0 → wL_lawOf_213 post mc ms (nI (A 0)) (nI (A 1)) (nI (N 0)) (nI (N 1)) x12 x13 x14 x15 x16 kc ks) ∧ (¬ nI r = 0 →
        ((nI r = 2 → ((nI (N 1) < nI (N 0) → wL_lawOf_217 post mc ms (nI (A 0)) (nI (A 1)) (nI (N 0)) (nI (N 1)) x12 x13 x14 x15 x16 kc ks) ∧ (¬ nI (N 1) < nI (N 0) → wL_lawOf_213 post mc ms (nI (A 0)) (nI (A 1)) (nI (N 0)) (nI (N 1)) x12 x13 x14 x15 x16 kc ks))) ∧
         (¬ nI r = 2 → wL_lawOf_217 post mc ms (nI (A 0)) (nI (A 1)) (nI (N 0)) (nI (N 1)) x12 x13 x14 x15 x16 kc ks))))) ∧
       (¬ nI (A 0) = nI (A 1) → wL_lawOf_217 post mc ms (nI (A 0)) (nI (A 1)) (nI (N 0)) (nI (N 1)) x12 x13 x14 x15 x16 kc ks)))) := by
  have b0 := hA 0 (by omega)
  have b1 := hA 1 (by omega)
  have L1 : A 0 < A 1 ∨ (A 1 = A 0 ∧ qn_fst r N = 0) → wL_lawOf_213 post mc ms (nI (A 0)) (nI (A 1)) (nI (N 0)) (nI (N 1)) x12 x13 x14 x15 x16 kc ks := fun y =>
    qn_213 H h12 h13 h14 h15 h16 (if_pos y) (if_pos y) b0.1 b1.1 b0.2 b1.2 hk1 hk0
  have L2 : ¬ (A 0 < A 1 ∨ (A 1 = A 0 ∧ qn_fst r N = 0)) → wL_lawOf_217 post mc ms (nI (A 0)) (nI (A 1)) (nI (N 0)) (nI (N 1)) x12 x13 x14 x15 x16 kc ks := fun y =>
    qn_217 H h12 h13 h14 h15 h16 (if_neg y) (if_neg y) b0.1 b1.1 b0.2 b1.2 hk1 hk0
  have f0 : ¬ (r = 1 ∨ (r = 2 ∧ N 1 < N 0)) → qn_fst r N = 0 := fun y => if_neg y
  have f1 : (r = 1 ∨ (r = 2 ∧ N 1 < N 0)) → qn_fst r N = 1 := fun y => if_pos y
  refine pk_lt (A 0) (A 1) (fun y => L1 (Or.inl y)) (fun y => pk_eq (A 0) (A 1) (fun y2 => pk_eq r 0 (fun y3 => L1 (Or.inr ⟨y2.symm, f0 (by omega)⟩)) (fun y3 => pk_eq r 2 (fun y4 => pk_lt (N 1) (N 0) (fun y5 => L2 ?_) (fun y5 => L1 (Or.inr ⟨y2.symm, f0 (by omega)⟩))) (fun y4 => L2 ?_))) (fun y2 => L2 ?_))
  · have z := f1 (by omega)
    omega
  · have z := f1 (by omega)
    omega
  · omega
end
end
section
/-! ===== the law ===== -/
theorem qn_mod (x : Int32) {d : Nat} (h0 : 0 < d) (hd : d < 2 ^ 31) : ∃ j, j < d ∧ (x &&& 65535) - (x &&& 65535) / nI d * nI d = nI j := by
  obtain ⟨j, hj, e⟩ := pk_andE x (m := 65535) 16 (by decide)
  refine ⟨j % d, Nat.mod_lt _ h0, ?_⟩
  rw [e]
  exact pk_rem (by omega) h0 hd
theorem qn_rule (x : Int32) : ∃ j, j < 3 ∧ ((x >>> ((1 : Int32) &&& 31)) &&& 255) - ((x >>> ((1 : Int32) &&& 31)) &&& 255) / 3 * 3 = nI j := by
  obtain ⟨j, hj, e⟩ := pk_andE (x >>> ((1 : Int32) &&& 31)) (m := 255) 8 (by decide)
  refine ⟨j % 3, Nat.mod_lt _ (by omega), ?_⟩
  rw [e]
  exact pk_rem (d := 3) (by omega) (by omega) (by omega)
theorem qn_mkK {A0 A1 s r p q : Nat} {a1 a2 a3 a4 a5 a6 : Nat → Int32} (h0 : A0 ≤ 100) (h1 : A1 ≤ 100) (hp : p < 30) (hq : q < 30) (hs : s < 4) (hr : r < 3) (ha : ∀ i, i < 4 → a1 i = nI 1) :
    qn_KK s r (fun i => if i = 0 then A0 else A1) (fun i => if i = 0 then 1 + p else 1 + q) (nI 2) (upd a1 s (nI 1)) (upd a2 s (nI r)) (upd (upd a3 0 (nI A0)) 1 (nI A1)) (upd (upd (upd (upd a4 0 (nI 0)) 1 (nI 0)) 0 (nI 1)) 1 (nI 1)) (upd (upd a5 (4 * 0) (nI s)) (4 * 1) (nI s)) (upd (upd a6 (4 * 0) (nI (1 + p))) (4 * 1) (nI (1 + q))) := by
  refine ⟨hs, hr, rfl, fun i hi => ?_, pk_us, fun i hi => ?_⟩
  · by_cases y : i = s
    · rw [y, pk_us]
    · rw [pk_un y]
      exact ha i hi
  · rcases (show i = 0 ∨ i = 1 by omega) with y | y
    · subst y
      exact ⟨h0, by show 1 ≤ 1 + p; omega, by show 1 + p ≤ 30; omega, by rw [pk_un (by omega), pk_us]; rfl, by rw [pk_un (by omega), pk_us], by rw [pk_un (by omega), pk_us], by rw [pk_un (by omega), pk_us]; rfl⟩
    · subst y
      exact ⟨h1, by show 1 ≤ 1 + q; omega, by show 1 + q ≤ 30; omega, by rw [pk_us]; rfl, by rw [pk_us], by rw [pk_us], by rw [pk_us]; rfl⟩
theorem qn_big {r A0 A1 p q : Nat} (hp : p < 30) (hq : q < 30) (h0 : A0 ≤ 100) (h1 : A1 ≤ 100) :
    qn_one r (fun i => if i = 0 then A0 else A1) (fun i => if i = 0 then 1 + p else 1 + q) + (fun i => if i = 0 then 1 + p else 1 + q) 0 < 2 ^ 31 ∧ qn_two r (fun i => if i = 0 then A0 else A1) (fun i => if i = 0 then 1 + p else 1 + q) + (fun i => if i = 0 then 1 + p else 1 + q) 1 < 2 ^ 31 := by
  have e0 : (fun i => if i = 0 then 1 + p else 1 + q) 0 = 1 + p := rfl
  have e1 : (fun i => if i = 0 then 1 + p else 1 + q) 1 = 1 + q := rfl
  have g0 : (fun i => if i = 0 then A0 else A1) 0 = A0 := rfl
  have g1 : (fun i => if i = 0 then A0 else A1) 1 = A1 := rfl
  unfold qn_one qn_two
  rw [e0, e1, g0, g1]
  constructor
  · split <;> omega
  · split <;> omega
theorem qn_l37 {post : Int32 → St0 → Prop} {mc ms kc ks : Nat} {x2 x3 x4 : Int32} {A0 A1 : Nat} {a1 : Nat → Int32} (H : post 1 ()) (h0 : A0 ≤ 100) (h1 : A1 ≤ 100) (ha : ∀ i, i < 4 → a1 i = nI 1) :
    wL_lawOf_37 post mc ms x2 x3 x4 (nI A0) (nI A1) kc ks 0 0 0 0 0 0 0 a1 (fun _ => 0) (fun _ => 0) (fun _ => 0) (fun _ => 0) (fun _ => 0) (fun _ => 0) (fun _ => 0) (fun _ => 0) (fun _ => 0) (fun _ => 0) (fun _ => 0) (fun _ => 0) (fun _ => 0) (fun _ => 0) (fun _ => 0) (fun _ => 0) (fun _ => 0) (fun _ => 0) (fun _ => 0) (fun _ => 0) (fun _ => 0) (fun _ => 0) (fun _ => 0) (fun _ => 0) (fun _ => 0) (fun _ => 0)  := by
  obtain ⟨p, hp, ep⟩ := qn_mod x2 (d := 30) (by omega) (by omega)
  obtain ⟨q, hq, eq⟩ := qn_mod x3 (d := 30) (by omega) (by omega)
  obtain ⟨r, hr, er⟩ := qn_rule x4
  obtain ⟨s, hs, es⟩ := pk_andE (x4 >>> ((9 : Int32) &&& 31)) (m := 3) 2 (by decide)
  obtain ⟨e, he, ee⟩ := pk_andE (x4 >>> ((11 : Int32) &&& 31)) (m := 3) 2 (by decide)
  have ep' : 1 + ((x2 &&& 65535) - (x2 &&& 65535) / 30 * 30) = nI (1 + p) := (congrArg (fun z => (1 : Int32) + z) ep).trans (nI_add 1 p)
  have eq' : 1 + ((x3 &&& 65535) - (x3 &&& 65535) / 30 * 30) = nI (1 + q) := (congrArg (fun z => (1 : Int32) + z) eq).trans (nI_add 1 q)
  have hs' : s < 4 := hs
  have he' : e < 4 := he
  have hK := qn_mkK (a1 := a1) (a2 := fun _ => 0) (a3 := fun _ => 0) (a4 := fun _ => 0) (a5 := fun _ => 0) (a6 := fun _ => 0) h0 h1 hp hq hs' hr ha
  refine ⟨by decide, nm_r ep' ⟨by decide, nm_r eq' ⟨by decide, nm_r er (nm_r es ?_)⟩⟩⟩
  rw [ee]
  refine qn_station hs' hr (fun _ => qn_arrive (k := 0) (by omega) rfl h0 (fun _ => qn_arrive (k := 1) (by omega) rfl h1 (fun _ => qn_visit (c := 0) (by omega) rfl hs' (by omega) (by omega) ?_ (fun _ => qn_visit (c := 1) (by omega) rfl hs' (by omega) (by omega) ?_ (fun _ => ?_)))))
  · rw [pk_un (by omega), pk_us]
  · rw [pk_un (by omega), pk_us]
  refine qn_begins (c := 0) hK (by omega) (fun fe' fg' fp' ft' fr' fl' a20' a21' a22' a23' a24' a25' a26' a27' a7' a8' a9' a13' a14' a15' a16' a17' a18' a19' hR1 => ?_)
  have h12 := (qn_RV hR1).2.2.1
  clear hR1
  refine qn_begins (c := 1) hK (by omega) (fun fe'' fg'' fp'' ft'' fr'' fl'' a20'' a21'' a22'' a23'' a24'' a25'' a26'' a27'' a7'' a8'' a9'' a13'' a14'' a15'' a16'' a17'' a18'' a19'' hR2 => ?_)
  have h13 := (qn_RV hR2).2.2.2.1
  clear hR2
  refine qn_leaves hK he' (fun fe' fg' fp' ft' fr' fl' a20' a21' a22' a23' a24' a25' a26' a27' a7t a8t a9t a13t a14t a15t a16t a17t a18t a19t hR3 => ?_)
  have h14 := (qn_RV hR3).2.2.2.2.1
  clear hR3
  refine qn_stays hK (fun fe' fg' fp' ft' fr' fl' a20' a21' a22' a23' a24' a25' a26' a27' a7u a8u a9u a13u a14u a15u a16u a17u a18u a19u hR4 => ?_)
  have h15 := qn_RV hR4
  clear hR4
  refine qn_order hK (fun fe' fg' fp' ft' fr' fl' a20' a21' a22' a23' a24' a25' a26' a27' a7v a8v a9v a13v a14v a15v a16v a17v a18v a19v hR5 v k hv hk1 hk0 => ?_)
  have h16 := qn_RV hR5
  clear hR5
  have w0 := qn_inj (h16.2.2.2.2.1.symm.trans (hv 0 (by omega)).1) (qn_big hp hq h0 h1).1 (Nat.lt_trans (hv 0 (by omega)).2 (by omega))
  have w1 := qn_inj (h16.2.2.2.2.2.symm.trans (hv 1 (by omega)).1) (qn_big hp hq h0 h1).2 (Nat.lt_trans (hv 1 (by omega)).2 (by omega))
  rw [← w0, ← w1] at hk1 hk0
  have h15' := hK.2.2.2.2.2
  refine qn_last (k := k) H hr (fun i hi => ⟨(h15' i hi).1, (h15' i hi).2.2.1⟩) h12 h13 h14 ?_ rfl hk1 hk0
  rw [h15.1, h15.2.1, h15.2.2.1, h15.2.2.2.1, (h15' 0 (by omega)).2.2.2.2.2.2, (h15' 1 (by omega)).2.2.2.2.2.2]
theorem qn_lawOf {post : Int32 → St0 → Prop} (H : post 1 ()) (p0 p1 p2 p3 p4 : Int32) : wpL_lawOf post 28 1154 () p0 p1 p2 p3 p4 := by
  obtain ⟨a, ha, ea⟩ := qn_mod p0 (d := 101) (by omega) (by omega)
  obtain ⟨b, hb, eb⟩ := qn_mod p1 (d := 101) (by omega) (by omega)
  have eb' : (p1 &&& 65535) - (p1 &&& 65535) / 101 * 101 = nI b := eb
  refine ⟨by omega, by omega, 27, 1120, by omega, by omega, qn_init (fun a1 h1 => ⟨by decide, nm_r ea (br_c (fun _ => qn_l37 H (by omega) (by omega) h1) (fun _ => ⟨by decide, ?_⟩))⟩)⟩
  rw [eb']
  exact qn_l37 H (by omega) (by omega) h1
theorem qn_cell {post : Int32 → Prop} {L k : Nat} {xs : Nat → Int32} (hL : L ≤ 5) (hk : k < 5) (H : ∀ x, post x) : wpL_cellAt post L xs () (nI k) :=
  pk_le L k (fun _ => H _) (fun z => ⟨pk_in k L z, H _⟩)
theorem i_vc (xs : Nat → Int32) (L : Nat) (hL : L ≤ 5) : wpL_law (fun r => r = 1) L xs := by
  unfold wpL_law
  exact qn_cell (k := 0) hL (by omega) (fun r1 => qn_cell (k := 1) hL (by omega) (fun r2 => qn_cell (k := 2) hL (by omega) (fun r3 => qn_cell (k := 3) hL (by omega) (fun r4 => qn_cell (k := 4) hL (by omega) (fun r5 => ⟨28, 1154, by omega, by omega, qn_lawOf rfl r1 r2 r3 r4 r5⟩)))))
end
