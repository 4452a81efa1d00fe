section
/-! ===== bits of a long ===== -/
theorem rt_nf {x : Bool} (h : ¬ x = false) : x = true := by cases x <;> first | rfl | exact absurd rfl h
theorem rt_nt {x : Bool} (h : ¬ x = true) : x = false := by cases x <;> first | rfl | exact absurd rfl h
theorem rt_tsb {w : Int64} {s : UInt64} {j : Nat} (hj : j < 64) (hs : s.toNat = j) : ((w.toUInt64 >>> s).toInt64 &&& 1) = 0 ↔ w.toBitVec.getLsbD j = false := by
  have e : (w.toUInt64 >>> s).toInt64.toBitVec = w.toBitVec >>> j := by
    apply BitVec.eq_of_toNat_eq
    show (w.toUInt64 >>> s).toNat = _
    rw [UInt64.toNat_shiftRight, hs, Nat.mod_eq_of_lt hj, BitVec.toNat_ushiftRight]
    rfl
  rw [← Int64.toBitVec_inj, Int64.toBitVec_and, e]
  show w.toBitVec >>> j &&& 1#64 = 0#64 ↔ _
  constructor
  · intro h
    have t := congrArg (fun x => x.getLsbD 0) h
    simpa using t
  · intro h
    apply BitVec.eq_of_getLsbD_eq
    intro i hi
    cases i with
    | zero => simp [h]
    | succ i => simp
def rt_b (w : Int64) (k : Nat) : Bool := w.toBitVec.getLsbD k
def rt_i (b : Bool) : Int32 := cond b 1 0
theorem rt_cu : ∀ c, c < 64 → ((nI c &&& 63).toInt64.toUInt64 &&& Int64.toUInt64 63) = UInt64.ofNat c := by decide +kernel
theorem rt_cl : ∀ c, c < 64 → ((1 : Int64) <<< ((nI c &&& 63).toInt64 &&& 63)).toBitVec = BitVec.twoPow 64 c := by decide +kernel
theorem rt_bit {w : Int64} {c : Nat} (hc : c < 64) : ((w.toUInt64 >>> ((nI c &&& 63).toInt64.toUInt64 &&& Int64.toUInt64 63)).toInt64 &&& 1) = 0 ↔ rt_b w c = false := by
  rw [rt_cu c hc]
  exact rt_tsb hc (by show (BitVec.ofNat 64 c).toNat = c; rw [BitVec.toNat_ofNat, Nat.mod_eq_of_lt (by omega)])
theorem rt_bor {w : Int64} {c : Nat} (hc : c < 64) (j : Nat) : rt_b (w ||| ((1 : Int64) <<< ((nI c &&& 63).toInt64 &&& 63))) j = (rt_b w j || decide (j = c)) := by
  unfold rt_b
  rw [Int64.toBitVec_or, BitVec.getLsbD_or, rt_cl c hc, BitVec.getLsbD_twoPow]
  by_cases h : j = c
  · subst h; simp [hc]
  · have h' : ¬ c = j := fun e => h e.symm
    simp [h, h']
theorem rt_b0 : ∀ j, j < 64 → rt_b 0 j = false := by decide +kernel
theorem rt_b1 : ∀ j, j < 64 → rt_b 1 j = decide (j = 0) := by decide +kernel
theorem rt_br {b : Bool} {A B : Prop} (f : b = false → A) (g : b = true → B) : (rt_i b = 0 → A) ∧ (¬ rt_i b = 0 → B) := by
  cases b
  · exact ⟨fun _ => f rfl, fun z => absurd rfl z⟩
  · exact ⟨fun z => absurd z (by decide), fun _ => g rfl⟩
/-- the words after a put -/
def rt_pt (w : Nat → Int64) (i c : Nat) : Nat → Int64 := vp_updL w i (w i ||| ((1 : Int64) <<< ((nI c &&& 63).toInt64 &&& 63)))
theorem rt_pt_n {w : Nat → Int64} {i c k : Nat} (h : k ≠ i) : rt_pt w i c k = w k := pk_uLn h
theorem rt_pt_s {w : Nat → Int64} {i c : Nat} (hc : c < 64) (j : Nat) : rt_b (rt_pt w i c i) j = (rt_b (w i) j || decide (j = c)) := by
  unfold rt_pt
  rw [pk_uLs, rt_bor hc]
/-- whether fact f is present -/
def rt_h (P : Int32) (f : Nat) : Bool := !decide (((P >>> (nI f &&& 31)) &&& 1) = 0)
theorem rt_wd : ∀ r, r < 3 → ∀ l, l < 3 → ∀ c, c < 64 → ((nI r * 11) + nI l) + (nI c >>> ((6 : Int32) &&& 31)) = nI (r * 11 + l) := by decide +kernel
theorem rt_cd : ∀ l, l < 3 → (1 : Int32) <<< ((3 * nI l) &&& 31) = nI (8 ^ l) := by decide +kernel
theorem rt_word {P : Int32 → Prop} {r l c : Nat} (hr : r < 3) (hl : l < 3) (hc : c < 64) (H : P (nI (r * 11 + l))) : wpX_wordOf P () (nI r) (nI l) (nI c) := by
  unfold wpX_wordOf
  rw [rt_wd r hr l hl c hc]
  exact H
theorem rt_codes {P : Int32 → Prop} {l : Nat} (hl : l < 3) (H : P (nI (8 ^ l))) : wpX_codes P () (nI l) := by
  unfold wpX_codes
  rw [rt_cd l hl]
  exact H
theorem rt_rule {P : Int32 → Prop} {r : Nat} (hr : r < 3) (H : P 1) : wpX_isRule P () (nI r) :=
  br_f (nI_pos (by omega)) (br_f (nI_ge (b := 3) hr (by decide)) H)
section
variable {f0 : Int32} {a1 a2 a3 a4 a5 a6 a7 a8 : Nat → Int32} {w bf : Nat → Int64} {bd t : Nat → Int32}
theorem rt_has {post : Int32 → Prop} {g : Nat} (hg : g < 7) (H : post (rt_i (rt_h f0 g))) : wpX_has post (f0, a1, a2, a3, a4, a5, a6, a7, a8, w, bf, bd, t) (nI g) := by
  refine br_f (nI_pos (by omega)) (br_f (nI_ge (b := 7) hg (by decide)) (br_c (fun z => ?_) (fun z => ?_)))
  · have e : rt_h f0 g = false := by unfold rt_h; rw [decide_eq_true z]; rfl
    rw [e] at H
    exact H
  · have e : rt_h f0 g = true := by unfold rt_h; rw [decide_eq_false z]; rfl
    rw [e] at H
    exact H
theorem rt_isIn {post : Int32 → Prop} {r l c : Nat} (hr : r < 3) (hl : l < 3) (hc : c < 64) (H : post (rt_i (rt_b (w (r * 11 + l)) c))) : wpX_isIn post (f0, a1, a2, a3, a4, a5, a6, a7, a8, w, bf, bd, t) (nI r) (nI l) (nI c) := by
  unfold wpX_isIn
  refine rt_word hr hl hc ?_
  refine ⟨pk_in (r * 11 + l) 33 (by omega), ?_⟩
  rw [nI_clamp (show r * 11 + l < 2 ^ 31 by omega)]
  refine br_c (fun z => ?_) (fun z => ?_)
  · rw [(rt_bit hc).mp z] at H
    exact H
  · rw [rt_nf (fun e => z ((rt_bit hc).mpr e))] at H
    exact H
theorem rt_wasIn {post : Int32 → Prop} {r l c : Nat} (hr : r < 3) (hl : l < 3) (hc : c < 64) (H : post (rt_i (rt_b (bf (r * 11 + l)) c))) : wpX_wasIn post (f0, a1, a2, a3, a4, a5, a6, a7, a8, w, bf, bd, t) (nI r) (nI l) (nI c) := by
  unfold wpX_wasIn
  refine rt_word hr hl hc ?_
  refine ⟨pk_in (r * 11 + l) 33 (by omega), ?_⟩
  rw [nI_clamp (show r * 11 + l < 2 ^ 31 by omega)]
  refine br_c (fun z => ?_) (fun z => ?_)
  · rw [(rt_bit hc).mp z] at H
    exact H
  · rw [rt_nf (fun e => z ((rt_bit hc).mpr e))] at H
    exact H
theorem rt_put {post : St2 → Prop} {r l c : Nat} (hr : r < 3) (hl : l < 3) (hc : c < 64) (H : post (f0, a1, a2, a3, a4, a5, a6, a7, a8, rt_pt w (r * 11 + l) c, bf, bd, t)) : wpX_put post (f0, a1, a2, a3, a4, a5, a6, a7, a8, w, bf, bd, t) (nI r) (nI l) (nI c) := by
  unfold wpX_put
  refine rt_word hr hl hc ?_
  refine ⟨pk_in (r * 11 + l) 33 (by omega), pk_in (r * 11 + l) 33 (by omega), ?_⟩
  rw [nI_clamp (show r * 11 + l < 2 ^ 31 by omega)]
  exact nm_e H
end
end
section
/-! ===== meets, fits, bindAlong ===== -/
theorem rt_s4 : ∀ x, x < 3 → nI (4 + x) - 4 = nI x := by decide +kernel
theorem rt_i8 : ∀ v, v < 8 → (nI v).toInt8.toInt32 = nI v := by decide +kernel
theorem rt_nar {x : Int32} {v : Nat} (hx : x = nI v) (hv : v < 8) : vp_nar .byte x = x := by
  rw [vp_nar_byte, hx]
  exact rt_i8 v hv
theorem rt_fill {f s : Nat → Int32} {i k : Nat} {x : Int32} (hk : k = i) (h : ∀ j, j < i → s j = f j) (hx : x = f i) : ∀ j, j < i + 1 → upd s k x j = f j := by
  intro j hj
  rw [hk]
  by_cases e : j = i
  · rw [e, pk_us, hx]
  · rw [pk_un e]
    exact h j (by omega)
section
variable {f0 : Int32} {a1 a2 a3 a4 a5 a6 a7 a8 : Nat → Int32} {w bf : Nat → Int64} {bd t : Nat → Int32}
theorem rt_m1 {post : Int32 → St2 → Prop} {x v : Nat} (hx : x < 3) (hv : v < 4) (ht : t x = 4) (H : post 1 (f0, a1, a2, a3, a4, a5, a6, a7, a8, w, bf, bd, upd t x (nI v))) : wpX_meets post (f0, a1, a2, a3, a4, a5, a6, a7, a8, w, bf, bd, t) (nI (4 + x)) (nI v) := by
  have h7 : ¬ nI (4 + x) = 7 := fun e => absurd ((nI_eq (b := 7) (by omega) (by omega)).mp e) (by omega)
  refine br_f (nI_nlt (b := 4) (by omega) (by omega)) (br_f h7 (nm_r (rt_s4 x hx) ⟨pk_in x 3 hx, ?_⟩))
  rw [nI_clamp (show x < 2 ^ 31 by omega)]
  exact br_t ht ⟨pk_in x 3 hx, nm_r (by rw [rt_i8 v (by omega)]) H⟩
theorem rt_m2 {post : Int32 → St2 → Prop} {x y v : Nat} (hx : x < 3) (hy : y < 4) (hv : v < 4) (ht : t x = nI y) (H : post (rt_i (decide (y = v))) (f0, a1, a2, a3, a4, a5, a6, a7, a8, w, bf, bd, t)) : wpX_meets post (f0, a1, a2, a3, a4, a5, a6, a7, a8, w, bf, bd, t) (nI (4 + x)) (nI v) := by
  have h7 : ¬ nI (4 + x) = 7 := fun e => absurd ((nI_eq (b := 7) (by omega) (by omega)).mp e) (by omega)
  have h4 : ¬ nI y = 4 := fun e => absurd ((nI_eq (b := 4) (by omega) (by omega)).mp e) (by omega)
  refine br_f (nI_nlt (b := 4) (by omega) (by omega)) (br_f h7 (nm_r (rt_s4 x hx) ⟨pk_in x 3 hx, ?_⟩))
  rw [nI_clamp (show x < 2 ^ 31 by omega), ht]
  refine br_f h4 ⟨pk_in x 3 hx, pk_eq y v (fun e => ?_) (fun e => ?_)⟩
  · rw [decide_eq_true e] at H
    exact H
  · rw [decide_eq_false e] at H
    exact H
theorem rt_m3 {post : Int32 → St2 → Prop} {d v : Nat} (hd : d < 4) (hv : v < 4) (H : post (rt_i (decide (d = v))) (f0, a1, a2, a3, a4, a5, a6, a7, a8, w, bf, bd, t)) : wpX_meets post (f0, a1, a2, a3, a4, a5, a6, a7, a8, w, bf, bd, t) (nI d) (nI v) := by
  have h7 : ¬ nI d = 7 := fun e => absurd ((nI_eq (b := 7) (by omega) (by omega)).mp e) (by omega)
  refine br_t (nI_lt (b := 4) hd (by omega)) (br_f h7 (pk_eq d v (fun e => ?_) (fun e => ?_)))
  · rw [decide_eq_true e] at H
    exact H
  · rw [decide_eq_false e] at H
    exact H
theorem rt_f20 {post : Int32 → St2 → Prop} {k g : Nat} {x3 : Int32} (hn : ∀ x, x < 3 → vp_nar .byte (bd x) = bd x) (H : ∀ n t', (∀ x, x < 3 → t' x = bd x) → wX_fits_20 post (nI k) (nI g) x3 f0 (n + 1) (nI 3) a1 a2 a3 a4 a5 a6 a7 a8 w bf bd t') : ∃ n, wX_fits_20 post (nI k) (nI g) x3 f0 n 0 a1 a2 a3 a4 a5 a6 a7 a8 w bf bd t :=
  pk_loop (fun n i s => wX_fits_20 post (nI k) (nI g) x3 f0 n (nI i) a1 a2 a3 a4 a5 a6 a7 a8 w bf bd s) (fun i s => ∀ j, j < i → s j = bd j) 3 0 t (by omega) (fun j hj => absurd hj (by omega))
    (fun n s h => H n s h)
    (fun n i s hi h hw => pk_le 3 i (fun z => absurd z (by omega)) (fun _ => ⟨pk_in i 3 hi, pk_in i 3 hi, nm_e (nm_r (nI_1 i) (hw _ (rt_fill (nI_clamp (by omega)) h (by rw [nI_clamp (by omega)]; exact hn i hi))))⟩))
theorem rt_f94a {post : Int32 → St2 → Prop} {x3 : Int32} (H : post 0 (f0, a1, a2, a3, a4, a5, a6, a7, a8, w, bf, bd, t)) : ∃ n, wX_fits_94 post x3 0 f0 n 0 a1 a2 a3 a4 a5 a6 a7 a8 w bf bd t :=
  ⟨1, br_f (by decide) (br_t rfl ⟨rfl, H⟩)⟩
theorem rt_f94b {post : Int32 → St2 → Prop} (H : post 1 (f0, a1, a2, a3, a4, a5, a6, a7, a8, w, bf, bd, t)) : ∃ n, wX_fits_94 post 0 1 f0 n 0 a1 a2 a3 a4 a5 a6 a7 a8 w bf bd t :=
  ⟨1, br_f (by decide) (br_f (by decide) (br_t rfl ⟨rfl, H⟩))⟩
theorem rt_f94k {post : Int32 → St2 → Prop} (hn : ∀ x, x < 3 → vp_nar .byte (t x) = t x) (H : ∀ bd', (∀ x, x < 3 → bd' x = t x) → post 1 (f0, a1, a2, a3, a4, a5, a6, a7, a8, w, bf, bd', t)) : ∃ n, wX_fits_94 post 1 1 f0 n 0 a1 a2 a3 a4 a5 a6 a7 a8 w bf bd t :=
  pk_loop (fun n i s => wX_fits_94 post 1 1 f0 n (nI i) a1 a2 a3 a4 a5 a6 a7 a8 w bf s t) (fun i s => ∀ j, j < i → s j = t j) 3 0 bd (by omega) (fun j hj => absurd hj (by omega))
    (fun n s h => pk_le 3 3 (fun _ => ⟨rfl, H s h⟩) (fun z => absurd z (by omega)))
    (fun n i s hi h hw => pk_le 3 i (fun z => absurd z (by omega)) (fun _ => br_f (by decide) (br_f (by decide) ⟨pk_in i 3 hi, pk_in i 3 hi, nm_e (nm_r (nI_1 i) (hw _ (rt_fill (nI_clamp (by omega)) h (by rw [nI_clamp (by omega)]; exact hn i hi))))⟩)))
theorem rt_narB {y : Nat → Int32} (h0 : ∃ v, v < 8 ∧ y 0 = nI v) (h1 : ∃ v, v < 8 ∧ y 1 = nI v) (h2 : ∃ v, v < 8 ∧ y 2 = nI v) : ∀ x, x < 3 → vp_nar .byte (y x) = y x := by
  obtain ⟨v0, b0, e0⟩ := h0
  obtain ⟨v1, b1, e1⟩ := h1
  obtain ⟨v2, b2, e2⟩ := h2
  intro x hx
  match x, hx with
  | 0, _ => exact rt_nar e0 b0
  | 1, _ => exact rt_nar e1 b1
  | 2, _ => exact rt_nar e2 b2
/-- a fact of the right kind: the demands are met one after the other -/
theorem rt_fg {post : Int32 → St2 → Prop} {k g A B av bv : Nat} {x3 : Int32} (hk : k < 9) (hg : g < 7) (hkd : a1 g = a5 k) (hA : a6 k = nI A) (hB : a7 k = nI B) (ha : a2 g = nI av) (hb : a3 g = nI bv) (hn : ∀ x, x < 3 → vp_nar .byte (bd x) = bd x)
    (H : ∀ t', (∀ x, x < 3 → t' x = bd x) → wpX_meets (fun r u => match u with
      | (g0, b1, b2, b3, b4, b5, b6, b7, b8, b9, b10, b11, b12) => ((r = 0 → (∃ n : Nat, wX_fits_94 post x3 0 g0 n 0 b1 b2 b3 b4 b5 b6 b7 b8 b9 b10 b11 b12)) ∧ (¬ r = 0 → (vp_in (nI k) 9 ∧ (vp_in (nI g) 7 ∧ (wpX_meets (fun r u => match u with
        | (g0, b1, b2, b3, b4, b5, b6, b7, b8, b9, b10, b11, b12) => ((r = 0 → (∃ n : Nat, wX_fits_94 post x3 0 g0 n 0 b1 b2 b3 b4 b5 b6 b7 b8 b9 b10 b11 b12)) ∧ (¬ r = 0 → (∃ n : Nat, wX_fits_94 post x3 1 g0 n 0 b1 b2 b3 b4 b5 b6 b7 b8 b9 b10 b11 b12)))) (g0, b1, b2, b3, b4, b5, b6, b7, b8, b9, b10, b11, b12) (b7 (nI k).toNatClampNeg) (b3 (nI g).toNatClampNeg))))))) (f0, a1, a2, a3, a4, a5, a6, a7, a8, w, bf, bd, t') (nI A) (nI av)) :
    wpX_fits post (f0, a1, a2, a3, a4, a5, a6, a7, a8, w, bf, bd, t) (nI k) (nI g) x3 := by
  refine And.intro (pk_in g 7 hg) (And.intro (pk_in k 9 hk) (br_t ?_ (rt_f20 hn (fun n t' ht => ?_))))
  · rw [nI_clamp (show g < 2 ^ 31 by omega), nI_clamp (show k < 2 ^ 31 by omega)]
    exact hkd
  · refine pk_le 3 3 (fun _ => ⟨pk_in k 9 hk, pk_in g 7 hg, ?_⟩) (fun z => absurd z (by omega))
    have e1 : a6 (nI k).toNatClampNeg = nI A := by rw [nI_clamp (show k < 2 ^ 31 by omega)]; exact hA
    have e2 : a2 (nI g).toNatClampNeg = nI av := by rw [nI_clamp (show g < 2 ^ 31 by omega)]; exact ha
    rw [e1, e2]
    exact H t' ht
/-- cell (4, 5), nothing bound -/
theorem rt_fA {post : Int32 → St2 → Prop} {k g av bv : Nat} {x3 : Int32} (hk : k < 9) (hg : g < 7) (hkd : a1 g = a5 k) (hA : a6 k = nI 4) (hB : a7 k = nI 5) (ha : a2 g = nI av) (hb : a3 g = nI bv) (hav : av < 4) (hbv : bv < 4) (h0 : bd 0 = 4) (h1 : bd 1 = 4) (h2 : bd 2 = 4)
    (H : ∀ t', t' 0 = nI av → t' 1 = nI bv → t' 2 = 4 → ∃ n, wX_fits_94 post x3 1 f0 n 0 a1 a2 a3 a4 a5 a6 a7 a8 w bf bd t') : wpX_fits post (f0, a1, a2, a3, a4, a5, a6, a7, a8, w, bf, bd, t) (nI k) (nI g) x3 := by
  refine rt_fg hk hg hkd hA hB ha hb (rt_narB ⟨4, by omega, h0⟩ ⟨4, by omega, h1⟩ ⟨4, by omega, h2⟩) (fun t' ht => ?_)
  refine rt_m1 (x := 0) (by omega) hav (by rw [ht 0 (by omega)]; exact h0) ?_
  refine br_f (by decide) ⟨pk_in k 9 hk, pk_in g 7 hg, ?_⟩
  rw [nI_clamp (show k < 2 ^ 31 by omega), nI_clamp (show g < 2 ^ 31 by omega), hB, hb]
  refine rt_m1 (x := 1) (by omega) hbv (by rw [pk_un (by decide), ht 1 (by omega)]; exact h1) ?_
  refine br_f (by decide) (H _ ?_ ?_ ?_)
  · rw [pk_un (by decide), pk_us]
  · rw [pk_us]
  · rw [pk_un (by decide), pk_un (by decide), ht 2 (by omega)]
    exact h2
/-- cell (5, D), the second variable bound -/
theorem rt_fB {post : Int32 → St2 → Prop} {k g av bv y D : Nat} (hk : k < 9) (hg : g < 7) (hkd : a1 g = a5 k) (hA : a6 k = nI 5) (hB : a7 k = nI D) (ha : a2 g = nI av) (hb : a3 g = nI bv) (hav : av < 4) (hbv : bv < 4) (hy : y < 4) (hD : D < 4) (h0 : ∃ v, v < 8 ∧ bd 0 = nI v) (h1 : bd 1 = nI y) (h2 : bd 2 = 4)
    (H : ∀ t', post (rt_i (decide (y = av) && decide (D = bv))) (f0, a1, a2, a3, a4, a5, a6, a7, a8, w, bf, bd, t')) : wpX_fits post (f0, a1, a2, a3, a4, a5, a6, a7, a8, w, bf, bd, t) (nI k) (nI g) 0 := by
  refine rt_fg hk hg hkd hA hB ha hb (rt_narB h0 ⟨y, by omega, h1⟩ ⟨4, by omega, h2⟩) (fun t' ht => ?_)
  refine rt_m2 (x := 1) (y := y) (by omega) hy hav (by rw [ht 1 (by omega)]; exact h1) ?_
  refine rt_br (fun e => rt_f94a ?_) (fun e => ⟨pk_in k 9 hk, pk_in g 7 hg, ?_⟩)
  · have h := H t'
    rw [e] at h
    exact h
  · rw [nI_clamp (show k < 2 ^ 31 by omega), nI_clamp (show g < 2 ^ 31 by omega), hB, hb]
    refine rt_m3 hD hbv (rt_br (fun e2 => rt_f94a ?_) (fun e2 => rt_f94b ?_))
    · have h := H t'
      rw [e, e2] at h
      exact h
    · have h := H t'
      rw [e, e2] at h
      exact h
/-- cell (6, 6), nothing bound -/
theorem rt_fC {post : Int32 → St2 → Prop} {k g av bv : Nat} (hk : k < 9) (hg : g < 7) (hkd : a1 g = a5 k) (hA : a6 k = nI 6) (hB : a7 k = nI 6) (ha : a2 g = nI av) (hb : a3 g = nI bv) (hav : av < 4) (hbv : bv < 4) (h0 : bd 0 = 4) (h1 : bd 1 = 4) (h2 : bd 2 = 4)
    (H : ∀ t', post (rt_i (decide (av = bv))) (f0, a1, a2, a3, a4, a5, a6, a7, a8, w, bf, bd, t')) : wpX_fits post (f0, a1, a2, a3, a4, a5, a6, a7, a8, w, bf, bd, t) (nI k) (nI g) 0 := by
  refine rt_fg hk hg hkd hA hB ha hb (rt_narB ⟨4, by omega, h0⟩ ⟨4, by omega, h1⟩ ⟨4, by omega, h2⟩) (fun t' ht => ?_)
  refine rt_m1 (x := 2) (by omega) hav (by rw [ht 2 (by omega)]; exact h2) ?_
  refine br_f (by decide) ⟨pk_in k 9 hk, pk_in g 7 hg, ?_⟩
  rw [nI_clamp (show k < 2 ^ 31 by omega), nI_clamp (show g < 2 ^ 31 by omega), hB, hb]
  refine rt_m2 (x := 2) (y := av) (by omega) hav hbv (by rw [pk_us]) ?_
  refine rt_br (fun e => rt_f94a ?_) (fun e => rt_f94b ?_)
  · have h := H (upd t' 2 (nI av))
    rw [e] at h
    exact h
  · have h := H (upd t' 2 (nI av))
    rw [e] at h
    exact h
theorem rt_b3 {post : St2 → Prop} {p0 p1 p2 : Int32} (H : ∀ bd', bd' 0 = 4 → bd' 1 = 4 → bd' 2 = 4 → ∃ n, wX_bindAlong_26 post p0 p1 p2 n 0 f0 a1 a2 a3 a4 a5 a6 a7 a8 w bf bd' t) : wpX_bindAlong post (f0, a1, a2, a3, a4, a5, a6, a7, a8, w, bf, bd, t) p0 p1 p2 :=
  pk_loop (fun n i s => wX_bindAlong_3 post p0 p1 p2 f0 n (nI i) a1 a2 a3 a4 a5 a6 a7 a8 w bf s t) (fun i s => ∀ j, j < i → s j = 4) 3 0 bd (by omega) (fun j hj => absurd hj (by omega))
    (fun n s h => pk_le 3 3 (fun _ => H s (h 0 (by omega)) (h 1 (by omega)) (h 2 (by omega))) (fun z => absurd z (by omega)))
    (fun n i s hi h hw => pk_le 3 i (fun z => absurd z (by omega)) (fun _ => ⟨pk_in i 3 hi, nm_e (nm_r (nI_1 i) (hw _ (rt_fill (f := fun _ => 4) (nI_clamp (by omega)) h rfl)))⟩))
theorem rt_bind0 {post : St2 → Prop} {p0 p2 : Int32} (H : ∀ bd', bd' 0 = 4 → bd' 1 = 4 → bd' 2 = 4 → post (f0, a1, a2, a3, a4, a5, a6, a7, a8, w, bf, bd', t)) : wpX_bindAlong post (f0, a1, a2, a3, a4, a5, a6, a7, a8, w, bf, bd, t) p0 0 p2 :=
  rt_b3 (fun bd' h0 h1 h2 => ⟨1, br_t (by decide) (H bd' h0 h1 h2)⟩)
theorem rt_c7 : ∀ c, c < 7 → (nI c >>> ((3 * (0 : Int32)) &&& 31)) &&& 7 = nI c := by decide +kernel
theorem rt_bind1 {post : St2 → Prop} {c av bv : Nat} (hc : c < 7) (hkd : a1 c = a5 0) (hA : a6 0 = nI 4) (hB : a7 0 = nI 5) (ha : a2 c = nI av) (hb : a3 c = nI bv) (hav : av < 4) (hbv : bv < 4)
    (H : ∀ bd' t', bd' 0 = nI av → bd' 1 = nI bv → bd' 2 = 4 → post (f0, a1, a2, a3, a4, a5, a6, a7, a8, w, bf, bd', t')) : wpX_bindAlong post (f0, a1, a2, a3, a4, a5, a6, a7, a8, w, bf, bd, t) (nI 0) 1 (nI c) := by
  have h7 : ¬ nI c = 7 := fun e => absurd ((nI_eq (b := 7) (by omega) (by omega)).mp e) (by omega)
  refine rt_b3 (fun bd' h0 h1 h2 => ⟨2, br_f (by decide) (nm_r (rt_c7 c hc) (br_f h7 ?_))⟩)
  have e : (nI 0 * 3 + 0 : Int32) = nI 0 := by decide
  rw [e]
  refine rt_fA (by omega) hc hkd hA hB ha hb hav hbv h0 h1 h2 (fun t' z0 z1 z2 => ?_)
  refine rt_f94k (rt_narB ⟨av, by omega, z0⟩ ⟨bv, by omega, z1⟩ ⟨4, by omega, z2⟩) (fun bd'' hb' => ?_)
  refine nm_e (br_t (by decide) (H bd'' t' ?_ ?_ ?_))
  · rw [hb' 0 (by omega)]; exact z0
  · rw [hb' 1 (by omega)]; exact z1
  · rw [hb' 2 (by omega)]; exact z2
end
end
section
/-! ===== the sets of codes, pure ===== -/
/-- the codes after l conditions: p: which facts are there, q l c g: whether fact g goes on from code c -/
def rt_T (p : Nat → Bool) (q : Nat → Nat → Nat → Bool) : Nat → Nat → Bool
  | 0, c => decide (c = 0)
  | l + 1, c => rt_T p q l (c % 8 ^ l) && (decide (c / 8 ^ l < 7) && (p (c / 8 ^ l) && q l (c % 8 ^ l) (c / 8 ^ l)))
theorem rt_md {d c g : Nat} (hc : c < d) : (c + g * d) % d = c := by rw [Nat.add_mul_mod_self_right, Nat.mod_eq_of_lt hc]
theorem rt_dv {d c g : Nat} (hc : c < d) : (c + g * d) / d = g := by rw [Nat.add_mul_div_right _ _ (by omega), Nat.div_eq_of_lt hc, Nat.zero_add]
theorem rt_Tn {p : Nat → Bool} {q : Nat → Nat → Nat → Bool} {l c g : Nat} (hc : c < 8 ^ l) (hg : g < 7) : rt_T p q (l + 1) (c + g * 8 ^ l) = (rt_T p q l c && (p g && q l c g)) := by
  show (rt_T p q l ((c + g * 8 ^ l) % 8 ^ l) && (decide ((c + g * 8 ^ l) / 8 ^ l < 7) && (p ((c + g * 8 ^ l) / 8 ^ l) && q l ((c + g * 8 ^ l) % 8 ^ l) ((c + g * 8 ^ l) / 8 ^ l)))) = _
  rw [rt_md hc, rt_dv hc, decide_eq_true hg, Bool.true_and]
theorem rt_Td {p : Nat → Bool} {q : Nat → Nat → Nat → Bool} {l j : Nat} (h : rt_T p q (l + 1) j = true) : j / 8 ^ l < 7 ∧ rt_T p q l (j % 8 ^ l) = true := by
  have h' : (rt_T p q l (j % 8 ^ l) && (decide (j / 8 ^ l < 7) && (p (j / 8 ^ l) && q l (j % 8 ^ l) (j / 8 ^ l)))) = true := h
  rw [Bool.and_eq_true, Bool.and_eq_true] at h'
  exact ⟨of_decide_eq_true h'.2.1, h'.1⟩
theorem rt_T7 {p : Nat → Bool} {q : Nat → Nat → Nat → Bool} {l c : Nat} (hl : l < 2) (h : rt_T p q l c = true) : c < 7 ^ l := by
  match l, hl with
  | 0, _ =>
    have e : c = 0 := of_decide_eq_true h
    rw [e]
    decide
  | 1, _ =>
    have e := (rt_Td h).1
    rw [Nat.pow_zero, Nat.div_one] at e
    exact e
theorem rt_78 {l c : Nat} (hl : l < 2) (hc : c < 7 ^ l) : c < 8 ^ l ∧ c < 7 ∧ 8 ^ l ≤ 8 ∧ ∀ g, g < 7 → c + g * 8 ^ l < 64 := by
  match l, hl with
  | 0, _ =>
    rw [Nat.pow_zero] at hc ⊢
    exact ⟨by omega, by omega, by omega, fun g hg => by omega⟩
  | 1, _ =>
    rw [Nat.pow_one] at hc ⊢
    exact ⟨by omega, by omega, by omega, fun g hg => by omega⟩
/-- what stands after the g-loop has gone to g at code c -/
def rt_Y (T : Nat → Bool) (d c g j : Nat) : Bool := T j && (decide (j % d < c) || (decide (j % d = c) && decide (j / d < g)))
theorem rt_Yj {d c g j : Nat} (hj : ¬ j = c + g * d) (h4 : j % d = c) : decide (j / d < g + 1) = decide (j / d < g) := by
  have h3 : ¬ j / d = g := fun y => hj (by
    have h := Nat.div_add_mod j d
    rw [h4, y, Nat.mul_comm] at h
    omega)
  exact decide_eq_decide.mpr (by omega)
theorem rt_Yt {T : Nat → Bool} {d c g : Nat} (hc : c < d) (hT : T (c + g * d) = true) (j : Nat) : rt_Y T d c (g + 1) j = (rt_Y T d c g j || decide (j = c + g * d)) := by
  unfold rt_Y
  by_cases hj : j = c + g * d
  · rw [hj, rt_md hc, rt_dv hc, hT]
    simp
  · rw [decide_eq_false hj, Bool.or_false]
    by_cases h4 : j % d = c
    · rw [rt_Yj hj h4]
    · rw [decide_eq_false h4, Bool.false_and, Bool.false_and]
theorem rt_Yf {T : Nat → Bool} {d c g : Nat} (hT : T (c + g * d) = false) (j : Nat) : rt_Y T d c (g + 1) j = rt_Y T d c g j := by
  unfold rt_Y
  by_cases hj : j = c + g * d
  · rw [hj, hT, Bool.false_and, Bool.false_and]
  · by_cases h4 : j % d = c
    · rw [rt_Yj hj h4]
    · rw [decide_eq_false h4, Bool.false_and, Bool.false_and]
theorem rt_Y0 {T : Nat → Bool} {d c : Nat} (j : Nat) : rt_Y T d c 0 j = (T j && decide (j % d < c)) := by
  unfold rt_Y
  rw [decide_eq_false (Nat.not_lt_zero _), Bool.and_false, Bool.or_false]
theorem rt_Y7 {p : Nat → Bool} {q : Nat → Nat → Nat → Bool} {l c : Nat} (j : Nat) : rt_Y (rt_T p q (l + 1)) (8 ^ l) c 7 j = (rt_T p q (l + 1) j && decide (j % 8 ^ l < c + 1)) := by
  unfold rt_Y
  cases hT : rt_T p q (l + 1) j
  · rw [Bool.false_and, Bool.false_and]
  · rw [decide_eq_true (rt_Td hT).1, Bool.true_and, Bool.true_and, Bool.and_true, ← Bool.decide_or]
    exact decide_eq_decide.mpr (by omega)
/-- one word has the bits Y, the others are those of w0 -/
def rt_I (w0 w : Nat → Int64) (ix : Nat) (Y : Nat → Bool) : Prop := (∀ i, i ≠ ix → w i = w0 i) ∧ ∀ j, j < 64 → rt_b (w ix) j = Y j
theorem rt_Ie {w0 w : Nat → Int64} {ix : Nat} {Y Z : Nat → Bool} (h : rt_I w0 w ix Y) (e : ∀ j, j < 64 → Y j = Z j) : rt_I w0 w ix Z := ⟨h.1, fun j hj => (h.2 j hj).trans (e j hj)⟩
theorem rt_Ip {w0 w : Nat → Int64} {ix x : Nat} {Y Z : Nat → Bool} (hx : x < 64) (h : rt_I w0 w ix Y) (e : ∀ j, j < 64 → Z j = (Y j || decide (j = x))) : rt_I w0 (rt_pt w ix x) ix Z :=
  ⟨fun i hi => (rt_pt_n hi).trans (h.1 i hi), fun j hj => by rw [rt_pt_s hx, h.2 j hj, e j hj]⟩
theorem rt_Tz {p : Nat → Bool} {q : Nat → Nat → Nat → Bool} {l c : Nat} (h : rt_T p q l c = false) (j : Nat) : (rt_T p q (l + 1) j && decide (j % 8 ^ l < c)) = (rt_T p q (l + 1) j && decide (j % 8 ^ l < c + 1)) := by
  cases hT : rt_T p q (l + 1) j
  · rw [Bool.false_and, Bool.false_and]
  · have h2 := (rt_Td hT).2
    have h3 : ¬ j % 8 ^ l = c := fun e => by
      rw [e, h] at h2
      exact absurd h2 (by decide)
    rw [Bool.true_and, Bool.true_and]
    exact decide_eq_decide.mpr (by omega)
/-- the words of rule r hold the sets up to level n -/
def rt_W (p : Nat → Bool) (q : Nat → Nat → Nat → Bool) (r n : Nat) (w : Nat → Int64) : Prop := ∀ j, j ≤ n → ∀ c, c < 64 → rt_b (w (r * 11 + j)) c = rt_T p q j c
theorem rt_Wf {p : Nat → Bool} {q : Nat → Nat → Nat → Bool} {r r' n : Nat} {w w' : Nat → Int64} (hn : n ≤ 2) (hr : r' ≠ r) (hf : ∀ i, (i < r * 11 ∨ r * 11 + 11 ≤ i) → w' i = w i) (h : rt_W p q r' n w) : rt_W p q r' n w' :=
  fun j hj c hc => by
    rw [hf (r' * 11 + j) (by omega)]
    exact h j hj c hc
def rt_bv (fI : Int32) (x : Int64) : Int64 := if 0 ≤ fI then x else 0
def rt_w1 (w : Nat → Int64) (r j : Nat) : Int64 := if j = 0 then 1 else w (r * 11 + j)
end
section
/-! ===== extend and update ===== -/
theorem rt_nx : ∀ l, l < 2 → ∀ c, c < 7 → ∀ g, g < 7 → c < 7 ^ l → nI c ||| (nI g <<< ((3 * nI l) &&& 31)) = nI (c + g * 8 ^ l) := by decide +kernel
theorem rt_cell : ∀ r, r < 3 → ∀ l, l < 3 → nI r * 3 + nI l = nI (r * 3 + l) := by decide +kernel
theorem rt_ix : ∀ r, r < 3 → ∀ i, i < 11 → nI r * 11 + nI i = nI (r * 11 + i) := by decide +kernel
theorem rt_r11 : ∀ r, r < 3 → nI r * 11 = nI (r * 11) := by decide +kernel
def rt_Fit (a1 a2 a3 a4 a5 a6 a7 a8 : Nat → Int32) (B : (Nat → Int32) → Prop) (k : Nat) (q : Nat → Bool) : Prop := ∀ (f0 : Int32) (post : Int32 → St2 → Prop) (w bf : Nat → Int64) (bd t : Nat → Int32) (g : Nat), B bd → g < 7 → (∀ t', post (rt_i (q g)) (f0, a1, a2, a3, a4, a5, a6, a7, a8, w, bf, bd, t')) → wpX_fits post (f0, a1, a2, a3, a4, a5, a6, a7, a8, w, bf, bd, t) (nI k) (nI g) 0
def rt_Bind (a1 a2 a3 a4 a5 a6 a7 a8 : Nat → Int32) (B : (Nat → Int32) → Prop) (r l c : Nat) : Prop := ∀ (f0 : Int32) (post : St2 → Prop) (w bf : Nat → Int64) (bd t : Nat → Int32), (∀ bd' t', B bd' → post (f0, a1, a2, a3, a4, a5, a6, a7, a8, w, bf, bd', t')) → wpX_bindAlong post (f0, a1, a2, a3, a4, a5, a6, a7, a8, w, bf, bd, t) (nI r) (nI l) (nI c)
def rt_Lv (a1 a2 a3 a4 a5 a6 a7 a8 : Nat → Int32) (q : Nat → Nat → Nat → Bool) (r l : Nat) : Prop := a8 (r * 3 + l) = 0 ∧ ∀ c, c < 7 ^ l → ∃ B : (Nat → Int32) → Prop, rt_Bind a1 a2 a3 a4 a5 a6 a7 a8 B r l c ∧ rt_Fit a1 a2 a3 a4 a5 a6 a7 a8 B (r * 3 + l) (q l c)
/-- rule r has n conditions, and they fit as q says -/
def rt_Ok (a1 a2 a3 a4 a5 a6 a7 a8 : Nat → Int32) (q : Nat → Nat → Nat → Bool) (r n : Nat) : Prop := a4 r = nI n ∧ n ≤ 2 ∧ ∀ l, l < n → rt_Lv a1 a2 a3 a4 a5 a6 a7 a8 q r l
section
variable {f0 : Int32} {a1 a2 a3 a4 a5 a6 a7 a8 : Nat → Int32} {w bf : Nat → Int64} {bd t : Nat → Int32}
variable {r l c g k x n : Nat} {fI ad : Int32}
theorem rt_150 {post : St2 → Prop} {J : Int32 → Int32 → (Nat → Int32) → (Nat → Int32) → (Nat → Int32) → (Nat → Int32) → (Nat → Int32) → (Nat → Int32) → (Nat → Int32) → (Nat → Int32) → (Nat → Int64) → (Nat → Int64) → (Nat → Int32) → (Nat → Int32) → Prop} {x3 x4 x6 x7 : Int32} (hr : r < 3) (hl : l < 2) (hx : x < 64) (H : J (nI (g + 1)) f0 a1 a2 a3 a4 a5 a6 a7 a8 (rt_pt w (r * 11 + (l + 1)) x) bf bd t) : wX_extend_150 post J (nI r) (nI l) x3 x4 x6 x7 (nI g) (nI x) f0 a1 a2 a3 a4 a5 a6 a7 a8 w bf bd t := by
  unfold wX_extend_150
  rw [nI_1 l]
  exact rt_put hr (by omega) hx (nm_r (nI_1 g) H)
theorem rt_126 {post : St2 → Prop} {J : Int32 → Int32 → (Nat → Int32) → (Nat → Int32) → (Nat → Int32) → (Nat → Int32) → (Nat → Int32) → (Nat → Int32) → (Nat → Int32) → (Nat → Int32) → (Nat → Int64) → (Nat → Int64) → (Nat → Int32) → (Nat → Int32) → Prop} {x3 x4 x7 : Int32} {kp lk : Bool} {B : (Nat → Int32) → Prop} {q : Nat → Bool} (hr : r < 3) (hl : l < 2) (hx : x < 64) (hg : g < 7) (HF : rt_Fit a1 a2 a3 a4 a5 a6 a7 a8 B k q) (hB : B bd)
    (H1 : (kp || (lk && q g)) = true → ∀ t', J (nI (g + 1)) f0 a1 a2 a3 a4 a5 a6 a7 a8 (rt_pt w (r * 11 + (l + 1)) x) bf bd t')
    (H0 : (kp || (lk && q g)) = false → ∀ t', J (nI (g + 1)) f0 a1 a2 a3 a4 a5 a6 a7 a8 w bf bd t') :
    wX_extend_126 post J (nI r) (nI l) x3 x4 (nI k) x7 (nI g) (nI x) (rt_i kp) (rt_i lk) f0 a1 a2 a3 a4 a5 a6 a7 a8 w bf bd t :=
  rt_br (fun ek => rt_br (fun el => nm_r (nI_1 g) (H0 (by simp [ek, el]) t))
      (fun el => HF f0 _ w bf bd t g hB hg (fun t' => rt_br (fun eq => nm_r (nI_1 g) (H0 (by simp [ek, el, eq]) t')) (fun eq => rt_150 hr hl hx (H1 (by simp [ek, el, eq]) t')))))
    (fun ek => rt_150 hr hl hx (H1 (by simp [ek]) t))
theorem rt_98 {post : St2 → Prop} {J : Int32 → Int32 → (Nat → Int32) → (Nat → Int32) → (Nat → Int32) → (Nat → Int32) → (Nat → Int32) → (Nat → Int32) → (Nat → Int32) → (Nat → Int32) → (Nat → Int64) → (Nat → Int64) → (Nat → Int32) → (Nat → Int32) → Prop} {x3 x4 : Int32} {kp old : Bool} {B : (Nat → Int32) → Prop} {q : Nat → Bool} (hr : r < 3) (hl : l < 2) (hx : x < 64) (hg : g < 7) (HF : rt_Fit a1 a2 a3 a4 a5 a6 a7 a8 B k q) (hB : B bd)
    (H1 : (kp || ((rt_h f0 g && (!old || decide (nI g = x4))) && q g)) = true → ∀ t', J (nI (g + 1)) f0 a1 a2 a3 a4 a5 a6 a7 a8 (rt_pt w (r * 11 + (l + 1)) x) bf bd t')
    (H0 : (kp || ((rt_h f0 g && (!old || decide (nI g = x4))) && q g)) = false → ∀ t', J (nI (g + 1)) f0 a1 a2 a3 a4 a5 a6 a7 a8 w bf bd t') :
    wX_extend_98 post J (nI r) (nI l) x3 x4 (nI k) (rt_i old) (nI g) (nI x) (rt_i kp) f0 a1 a2 a3 a4 a5 a6 a7 a8 w bf bd t := by
  unfold wX_extend_98
  exact rt_has hg (rt_br
    (fun e1 => rt_126 (kp := kp) (lk := false) hr hl hx hg HF hB (fun z => H1 (by simpa [e1] using z)) (fun z => H0 (by simpa [e1] using z)))
    (fun e1 => rt_br
      (fun e2 => rt_126 (kp := kp) (lk := true) hr hl hx hg HF hB (fun z => H1 (by simpa [e1, e2] using z)) (fun z => H0 (by simpa [e1, e2] using z)))
      (fun e2 => br_c
        (fun e3 => rt_126 (kp := kp) (lk := true) hr hl hx hg HF hB (fun z => H1 (by simpa [e1, e2, e3] using z)) (fun z => H0 (by simpa [e1, e2, e3] using z)))
        (fun e3 => rt_126 (kp := kp) (lk := false) hr hl hx hg HF hB (fun z => H1 (by simpa [e1, e2, e3] using z)) (fun z => H0 (by simpa [e1, e2, e3] using z))))))
theorem rt_st {post : St2 → Prop} {m : Nat} {old : Bool} {B : (Nat → Int32) → Prop} {q : Nat → Bool} (hr : r < 3) (hl : l < 2) (hc : c < 7 ^ l) (hg : g < 7) (HF : rt_Fit a1 a2 a3 a4 a5 a6 a7 a8 B k q) (hB : B bd)
    (hO : old = true → ¬ nI g = fI → rt_b (bf (r * 11 + (l + 1))) (c + g * 8 ^ l) = (rt_h f0 g && q g))
    (H1 : (rt_h f0 g && q g) = true → ∀ t', wX_extend_51 post (nI r) (nI l) (nI c) fI (nI k) (rt_i old) m (nI (g + 1)) f0 a1 a2 a3 a4 a5 a6 a7 a8 (rt_pt w (r * 11 + (l + 1)) (c + g * 8 ^ l)) bf bd t')
    (H0 : (rt_h f0 g && q g) = false → ∀ t', wX_extend_51 post (nI r) (nI l) (nI c) fI (nI k) (rt_i old) m (nI (g + 1)) f0 a1 a2 a3 a4 a5 a6 a7 a8 w bf bd t') :
    wX_extend_51 post (nI r) (nI l) (nI c) fI (nI k) (rt_i old) (m + 1) (nI g) f0 a1 a2 a3 a4 a5 a6 a7 a8 w bf bd t := by
  obtain ⟨h8, h7, _, h64⟩ := rt_78 hl hc
  have hx := h64 g hg
  refine pk_le 7 g (fun z => absurd z (by omega)) (fun _ => nm_r (rt_nx l hl c h7 g hg hc) (rt_br (fun e => ?_) (fun e => br_c (fun e2 => ?_) (fun e2 => ?_))))
  · exact rt_98 (kp := false) (old := old) hr hl hx hg HF hB (fun z => H1 (by simpa [e] using z)) (fun z => H0 (by simpa [e] using z))
  · exact rt_98 (kp := false) (old := old) hr hl hx hg HF hB (fun z => H1 (by simpa [e2] using z)) (fun z => H0 (by simpa [e2] using z))
  · have ho := hO e e2
    rw [nI_1 l]
    refine rt_wasIn hr (by omega) hx (rt_br (fun e3 => ?_) (fun e3 => ?_))
    · rw [e3] at ho
      exact rt_98 (kp := false) (old := old) hr hl hx hg HF hB (fun z => absurd z (by simp [e, e2])) (fun _ => H0 ho.symm)
    · rw [e3] at ho
      exact rt_98 (kp := true) (old := old) hr hl hx hg HF hB (fun _ => H1 ho.symm) (fun z => absurd z (by simp))
theorem rt_e51 {post : St2 → Prop} {w0 : Nat → Int64} {old : Bool} {B : (Nat → Int32) → Prop} {q : Nat → Nat → Nat → Bool} (hr : r < 3) (hl : l < 2) (hc : c < 7 ^ l) (HF : rt_Fit a1 a2 a3 a4 a5 a6 a7 a8 B k (q l c)) (hB : B bd)
    (hT : rt_T (rt_h f0) q l c = true)
    (hO : old = true → ∀ g, g < 7 → ¬ nI g = fI → rt_b (bf (r * 11 + (l + 1))) (c + g * 8 ^ l) = (rt_h f0 g && q l c g))
    (hI : rt_I w0 w (r * 11 + (l + 1)) (fun j => rt_T (rt_h f0) q (l + 1) j && decide (j % 8 ^ l < c)))
    (H : ∀ w' t', rt_I w0 w' (r * 11 + (l + 1)) (fun j => rt_T (rt_h f0) q (l + 1) j && decide (j % 8 ^ l < c + 1)) → post (f0, a1, a2, a3, a4, a5, a6, a7, a8, w', bf, bd, t')) :
    ∃ m, wX_extend_51 post (nI r) (nI l) (nI c) fI (nI k) (rt_i old) m 0 f0 a1 a2 a3 a4 a5 a6 a7 a8 w bf bd t := by
  obtain ⟨h8, h7, _, h64⟩ := rt_78 hl hc
  refine pk_loop (σ := (Nat → Int64) × (Nat → Int32)) (fun m g s => wX_extend_51 post (nI r) (nI l) (nI c) fI (nI k) (rt_i old) m (nI g) f0 a1 a2 a3 a4 a5 a6 a7 a8 s.1 bf bd s.2) (fun g s => rt_I w0 s.1 (r * 11 + (l + 1)) (rt_Y (rt_T (rt_h f0) q (l + 1)) (8 ^ l) c g)) 7 0 (w, t) (by omega) (rt_Ie hI (fun j _ => (rt_Y0 j).symm)) ?_ ?_
  · intro m s h
    exact pk_le 7 7 (fun _ => H s.1 s.2 (rt_Ie h (fun j _ => rt_Y7 j))) (fun z => absurd z (by omega))
  · intro m g s hg h hw
    have hTn : rt_T (rt_h f0) q (l + 1) (c + g * 8 ^ l) = (rt_h f0 g && q l c g) := by rw [rt_Tn h8 hg, hT, Bool.true_and]
    refine rt_st hr hl hc hg HF hB (fun e => hO e g hg) (fun z t' => hw (rt_pt s.1 (r * 11 + (l + 1)) (c + g * 8 ^ l), t') ?_) (fun z t' => hw (s.1, t') ?_)
    · exact rt_Ip (h64 g hg) h (fun j _ => rt_Yt h8 (hTn.trans z) j)
    · exact rt_Ie h (fun j _ => (rt_Yf (hTn.trans z) j).symm)
theorem rt_extend {post : St2 → Prop} {w0 : Nat → Int64} {B : (Nat → Int32) → Prop} {q : Nat → Nat → Nat → Bool} (hr : r < 3) (hl : l < 2) (hc : c < 7 ^ l) (hn : a8 (r * 3 + l) = 0) (HB : rt_Bind a1 a2 a3 a4 a5 a6 a7 a8 B r l c) (HF : rt_Fit a1 a2 a3 a4 a5 a6 a7 a8 B (r * 3 + l) (q l c))
    (hT : rt_T (rt_h f0) q l c = true)
    (hO : rt_b (bf (r * 11 + l)) c = true → ∀ g, g < 7 → ¬ nI g = fI → rt_b (bf (r * 11 + (l + 1))) (c + g * 8 ^ l) = (rt_h f0 g && q l c g))
    (hI : rt_I w0 w (r * 11 + (l + 1)) (fun j => rt_T (rt_h f0) q (l + 1) j && decide (j % 8 ^ l < c)))
    (H : ∀ w' bd' t', rt_I w0 w' (r * 11 + (l + 1)) (fun j => rt_T (rt_h f0) q (l + 1) j && decide (j % 8 ^ l < c + 1)) → post (f0, a1, a2, a3, a4, a5, a6, a7, a8, w', bf, bd', t')) :
    wpX_extend post (f0, a1, a2, a3, a4, a5, a6, a7, a8, w, bf, bd, t) (nI r) (nI l) (nI c) fI ad := by
  obtain ⟨h8, h7, _, h64⟩ := rt_78 hl hc
  refine nm_r (rt_cell r hr l (by omega)) (rt_wasIn hr (by omega) (by omega) (HB f0 _ w bf bd t (fun bd' t' hB => ⟨pk_in (r * 3 + l) 9 (by omega), br_t ?_ (rt_e51 hr hl hc HF hB hT hO hI (fun w' t'' h => H w' bd' t'' h))⟩)))
  rw [nI_clamp (show r * 3 + l < 2 ^ 31 by omega)]
  exact hn
theorem rt_u106 {post : St2 → Prop} {J : Int32 → Int32 → (Nat → Int32) → (Nat → Int32) → (Nat → Int32) → (Nat → Int32) → (Nat → Int32) → (Nat → Int32) → (Nat → Int32) → (Nat → Int32) → (Nat → Int64) → (Nat → Int64) → (Nat → Int32) → (Nat → Int32) → Prop} {q : Nat → Nat → Nat → Bool} (hr : r < 3) (hl : l < 2) (ok : rt_Lv a1 a2 a3 a4 a5 a6 a7 a8 q r l)
    (hw0 : ∀ c, c < 64 → rt_b (w (r * 11 + l)) c = rt_T (rt_h f0) q l c) (hz : ∀ c, c < 64 → rt_b (w (r * 11 + (l + 1))) c = false)
    (hO : ∀ c, c < 7 ^ l → rt_T (rt_h f0) q l c = true → rt_b (bf (r * 11 + l)) c = true → ∀ g, g < 7 → ¬ nI g = fI → rt_b (bf (r * 11 + (l + 1))) (c + g * 8 ^ l) = (rt_h f0 g && q l c g))
    (H : ∀ w' bd' t', rt_I w w' (r * 11 + (l + 1)) (rt_T (rt_h f0) q (l + 1)) → J (nI (l + 1)) f0 a1 a2 a3 a4 a5 a6 a7 a8 w' bf bd' t') :
    ∃ m, wX_update_106 post J (nI r) fI ad (nI l) m 0 f0 a1 a2 a3 a4 a5 a6 a7 a8 w bf bd t := by
  have h8 : 0 < 8 ^ l ∧ 8 ^ l ≤ 8 := by
    match l, hl with
    | 0, _ => decide
    | 1, _ => decide
  refine pk_loop (σ := (Nat → Int64) × (Nat → Int32) × (Nat → Int32)) (fun m c s => wX_update_106 post J (nI r) fI ad (nI l) m (nI c) f0 a1 a2 a3 a4 a5 a6 a7 a8 s.1 bf s.2.1 s.2.2) (fun c s => rt_I w s.1 (r * 11 + (l + 1)) (fun j => rt_T (rt_h f0) q (l + 1) j && decide (j % 8 ^ l < c))) (8 ^ l) 0 (w, bd, t) (Nat.zero_le _) ⟨fun _ _ => rfl, fun j hj => ?_⟩ ?_ ?_
  · show rt_b (w (r * 11 + (l + 1))) j = (rt_T (rt_h f0) q (l + 1) j && decide (j % 8 ^ l < 0))
    rw [hz j hj, decide_eq_false (Nat.not_lt_zero _), Bool.and_false]
  · intro m s h
    unfold wX_update_106
    refine rt_codes (by omega) (pk_le (8 ^ l) (8 ^ l) (fun _ => nm_r (nI_1 l) (H s.1 s.2.1 s.2.2 (rt_Ie h (fun j _ => ?_)))) (fun z => absurd z (by omega)))
    show (rt_T (rt_h f0) q (l + 1) j && decide (j % 8 ^ l < 8 ^ l)) = _
    rw [decide_eq_true (Nat.mod_lt _ h8.1), Bool.and_true]
  · intro m c s hc h hw
    have hb : rt_b (s.1 (r * 11 + l)) c = rt_T (rt_h f0) q l c := by
      rw [h.1 (r * 11 + l) (by omega)]
      exact hw0 c (by omega)
    unfold wX_update_106
    refine rt_codes (by omega) (pk_le (8 ^ l) c (fun z => absurd z (by omega)) (fun _ => rt_isIn hr (by omega) (by omega) (rt_br (fun e => ?_) (fun e => ?_))))
    · rw [hb] at e
      exact nm_r (nI_1 c) (hw s (rt_Ie h (fun j _ => rt_Tz e j)))
    · rw [hb] at e
      have hc7 := rt_T7 hl e
      obtain ⟨B, HB, HF⟩ := ok.2 c hc7
      exact rt_extend hr hl hc7 ok.1 HB HF e (hO c hc7 e) h (fun w' bd' t' h' => nm_r (nI_1 c) (hw (w', bd', t') h'))
theorem rt_u92 {post : St2 → Prop} {q : Nat → Nat → Nat → Bool} (hr : r < 3) (ok : rt_Ok a1 a2 a3 a4 a5 a6 a7 a8 q r n)
    (h0 : ∀ c, c < 64 → rt_b (w (r * 11)) c = decide (c = 0)) (hz : ∀ j, 0 < j → j ≤ 2 → ∀ c, c < 64 → rt_b (w (r * 11 + j)) c = false)
    (hO : ∀ l, l < n → ∀ c, c < 7 ^ l → rt_T (rt_h f0) q l c = true → rt_b (bf (r * 11 + l)) c = true → ∀ g, g < 7 → ¬ nI g = fI → rt_b (bf (r * 11 + (l + 1))) (c + g * 8 ^ l) = (rt_h f0 g && q l c g))
    (H : ∀ w' bd' t', (∀ i, (i < r * 11 ∨ r * 11 + 11 ≤ i) → w' i = w i) → rt_W (rt_h f0) q r n w' → post (f0, a1, a2, a3, a4, a5, a6, a7, a8, w', bf, bd', t')) :
    ∃ m, wX_update_92 post (nI r) fI ad m 0 f0 a1 a2 a3 a4 a5 a6 a7 a8 w bf bd t := by
  obtain ⟨hs, hn, hlv⟩ := ok
  refine pk_loop (σ := (Nat → Int64) × (Nat → Int32) × (Nat → Int32)) (fun m l s => wX_update_92 post (nI r) fI ad m (nI l) f0 a1 a2 a3 a4 a5 a6 a7 a8 s.1 bf s.2.1 s.2.2)
    (fun l s => (∀ i, (i < r * 11 ∨ r * 11 + 11 ≤ i) → s.1 i = w i) ∧ rt_W (rt_h f0) q r l s.1 ∧ (∀ j, l < j → j ≤ 2 → ∀ c, c < 64 → rt_b (s.1 (r * 11 + j)) c = false)) n 0 (w, bd, t) (Nat.zero_le _) ⟨fun _ _ => rfl, fun j hj c hc => ?_, hz⟩ ?_ ?_
  · have e : j = 0 := by omega
    rw [e]
    exact h0 c hc
  · intro m s h
    refine And.intro (pk_in r 3 hr) ?_
    rw [nI_clamp (show r < 2 ^ 31 by omega), hs]
    exact pk_le n n (fun _ => H s.1 s.2.1 s.2.2 h.1 h.2.1) (fun z => absurd z (by omega))
  · intro m l s hl h hw
    refine And.intro (pk_in r 3 hr) ?_
    rw [nI_clamp (show r < 2 ^ 31 by omega), hs]
    refine pk_le n l (fun z => absurd z (by omega)) (fun _ => rt_u106 hr (by omega) (hlv l hl) (h.2.1 l (by omega)) (h.2.2 (l + 1) (by omega) (by omega)) (hO l hl) (fun w' bd' t' h' => hw (w', bd', t') ⟨fun i hi => ?_, fun j hj c hc => ?_, fun j hj hj2 c hc => ?_⟩))
    · show w' i = w i
      rw [h'.1 i (by omega)]
      exact h.1 i hi
    · show rt_b (w' (r * 11 + j)) c = _
      by_cases e : j = l + 1
      · rw [e]
        exact h'.2 c hc
      · rw [h'.1 (r * 11 + j) (by omega)]
        exact h.2.1 j (by omega) c hc
    · show rt_b (w' (r * 11 + j)) c = _
      rw [h'.1 (r * 11 + j) (by omega)]
      exact h.2.2 j (by omega) hj2 c hc
theorem rt_update {post : St2 → Prop} {q : Nat → Nat → Nat → Bool} (hr : r < 3) (ok : rt_Ok a1 a2 a3 a4 a5 a6 a7 a8 q r n)
    (hO : ∀ l, l < n → ∀ c, c < 7 ^ l → rt_T (rt_h f0) q l c = true → rt_b (rt_bv fI (rt_w1 w r l)) c = true → ∀ g, g < 7 → ¬ nI g = fI → rt_b (rt_bv fI (rt_w1 w r (l + 1))) (c + g * 8 ^ l) = (rt_h f0 g && q l c g))
    (H : ∀ w' bf' bd' t', (∀ i, (i < r * 11 ∨ r * 11 + 11 ≤ i) → w' i = w i) → rt_W (rt_h f0) q r n w' → post (f0, a1, a2, a3, a4, a5, a6, a7, a8, w', bf', bd', t')) :
    wpX_update post (f0, a1, a2, a3, a4, a5, a6, a7, a8, w, bf, bd, t) (nI r) fI ad := by
  have hn := ok.2.1
  refine pk_loop (σ := (Nat → Int64) × (Nat → Int64)) (fun m i s => wX_update_3 post (nI r) fI ad f0 m (nI i) a1 a2 a3 a4 a5 a6 a7 a8 s.1 s.2 bd t)
    (fun i s => (∀ x, (x < r * 11 ∨ r * 11 + i ≤ x) → s.1 x = w x) ∧ (∀ j, j < i → s.1 (r * 11 + j) = 0 ∧ s.2 (r * 11 + j) = rt_bv fI (w (r * 11 + j)))) 11 0 (w, bf) (by omega) ⟨fun _ _ => rfl, fun j hj => absurd hj (by omega)⟩ ?_ ?_
  · intro m s h
    have fin : ∀ v, v = rt_bv fI 1 → ∃ m, wX_update_92 post (nI r) fI ad m 0 f0 a1 a2 a3 a4 a5 a6 a7 a8 (vp_updL s.1 (r * 11) 1) (vp_updL s.2 (r * 11) v) bd t := by
      intro v hv
      have hb : ∀ j, j ≤ 2 → vp_updL s.2 (r * 11) v (r * 11 + j) = rt_bv fI (rt_w1 w r j) := by
        intro j hj
        unfold rt_w1
        by_cases e : j = 0
        · rw [if_pos e, e, ← hv]
          exact pk_uLs
        · rw [if_neg e, pk_uLn (by omega)]
          exact (h.2 j (by omega)).2
      refine rt_u92 hr ok (fun c hc => ?_) (fun j hj hj2 c hc => ?_) (fun l hl c hc hT ho g hg hne => ?_) (fun w' bd' t' h1 h2 => H w' _ bd' t' (fun i hi => ?_) h2)
      · rw [pk_uLs]
        exact rt_b1 c hc
      · rw [pk_uLn (by omega), (h.2 j (by omega)).1]
        exact rt_b0 c hc
      · rw [hb l (by omega)] at ho
        rw [hb (l + 1) (by omega)]
        exact hO l hl c hc hT ho g hg hne
      · rw [h1 i hi, pk_uLn (by omega)]
        exact h.1 i (by omega)
    refine pk_le 11 11 (fun _ => ?_) (fun z => absurd z (by omega))
    rw [rt_r11 r hr, nI_clamp (show r * 11 < 2 ^ 31 by omega)]
    exact ⟨pk_in (r * 11) 33 (by omega), nm_e (br_c (fun z => ⟨pk_in (r * 11) 33 (by omega), nm_e (fin 1 (if_pos z).symm)⟩) (fun z => ⟨pk_in (r * 11) 33 (by omega), nm_e (fin 0 (if_neg z).symm)⟩))⟩
  · intro m i s hi h hw
    have st : ∀ v, v = rt_bv fI (w (r * 11 + i)) → wX_update_41 post (wX_update_3 post (nI r) fI ad f0 m) (nI r) fI ad (nI i) v (nI (r * 11 + i)) f0 a1 a2 a3 a4 a5 a6 a7 a8 s.1 s.2 bd t := by
      intro v hv
      unfold wX_update_41
      rw [rt_ix r hr i hi, nI_clamp (show r * 11 + i < 2 ^ 31 by omega)]
      refine ⟨pk_in (r * 11 + i) 33 (by omega), nm_e ⟨pk_in (r * 11 + i) 33 (by omega), nm_e (nm_r (nI_1 i) (hw (vp_updL s.1 (r * 11 + i) 0, vp_updL s.2 (r * 11 + i) v) ⟨fun x hx => ?_, fun j hj => ?_⟩))⟩⟩
      · show vp_updL s.1 (r * 11 + i) 0 x = w x
        rw [pk_uLn (by omega)]
        exact h.1 x (by omega)
      · show vp_updL s.1 (r * 11 + i) 0 (r * 11 + j) = 0 ∧ vp_updL s.2 (r * 11 + i) v (r * 11 + j) = _
        by_cases e : j = i
        · rw [e, pk_uLs, pk_uLs]
          exact ⟨rfl, hv⟩
        · rw [pk_uLn (by omega), pk_uLn (by omega)]
          exact h.2 j (by omega)
    refine pk_le 11 i (fun z => absurd z (by omega)) (fun _ => ?_)
    rw [rt_ix r hr i hi, nI_clamp (show r * 11 + i < 2 ^ 31 by omega)]
    refine br_c (fun z => ⟨pk_in (r * 11 + i) 33 (by omega), st _ ?_⟩) (fun z => st _ (if_neg z).symm)
    rw [h.1 (r * 11 + i) (by omega)]
    exact (if_pos z).symm
/-- made anew -/
theorem rt_upd0 {post : St2 → Prop} {q : Nat → Nat → Nat → Bool} (hr : r < 3) (ok : rt_Ok a1 a2 a3 a4 a5 a6 a7 a8 q r n)
    (H : ∀ w' bf' bd' t', (∀ i, (i < r * 11 ∨ r * 11 + 11 ≤ i) → w' i = w i) → rt_W (rt_h f0) q r n w' → post (f0, a1, a2, a3, a4, a5, a6, a7, a8, w', bf', bd', t')) :
    wpX_update post (f0, a1, a2, a3, a4, a5, a6, a7, a8, w, bf, bd, t) (nI r) (-1) ad := by
  refine rt_update hr ok (fun l hl c hc hT ho g hg hne => ?_) H
  have hn := ok.2.1
  have e : rt_bv (-1) (rt_w1 w r l) = 0 := if_neg (by decide)
  rw [e, rt_b0 c (by have := (rt_78 (show l < 2 by omega) hc).2.1; omega)] at ho
  exact absurd ho (by decide)
/-- one fact has changed -/
theorem rt_upd1 {post : St2 → Prop} {q : Nat → Nat → Nat → Bool} {p0 : Nat → Bool} {f : Nat} (hr : r < 3) (ok : rt_Ok a1 a2 a3 a4 a5 a6 a7 a8 q r n) (hf : f < 7) (hW : rt_W p0 q r n w) (hp : ∀ g, g < 7 → g ≠ f → p0 g = rt_h f0 g)
    (H : ∀ w' bf' bd' t', (∀ i, (i < r * 11 ∨ r * 11 + 11 ≤ i) → w' i = w i) → rt_W (rt_h f0) q r n w' → post (f0, a1, a2, a3, a4, a5, a6, a7, a8, w', bf', bd', t')) :
    wpX_update post (f0, a1, a2, a3, a4, a5, a6, a7, a8, w, bf, bd, t) (nI r) (nI f) ad := by
  have hn := ok.2.1
  have hb : ∀ j, j ≤ n → ∀ c, c < 64 → rt_b (rt_bv (nI f) (rt_w1 w r j)) c = rt_T p0 q j c := by
    intro j hj c hc
    have e : rt_bv (nI f) (rt_w1 w r j) = rt_w1 w r j := if_pos (nI_pos' (by omega))
    rw [e]
    unfold rt_w1
    by_cases e : j = 0
    · rw [if_pos e, e]
      exact rt_b1 c hc
    · rw [if_neg e]
      exact hW j hj c hc
  refine rt_update hr ok (fun l hl c hc hT ho g hg hne => ?_) H
  obtain ⟨h8, h7, _, h64⟩ := rt_78 (show l < 2 by omega) hc
  rw [hb l (by omega) c (by omega)] at ho
  rw [hb (l + 1) (by omega) _ (h64 g hg), rt_Tn h8 hg, ho, Bool.true_and, hp g hg (fun e => hne (by rw [e]))]
end
end
section
/-! ===== the class's calls ===== -/
section
variable {f0 : Int32} {a1 a2 a3 a4 a5 a6 a7 a8 : Nat → Int32} {w bf : Nat → Int64} {bd t : Nat → Int32}
variable {r l n f a b : Nat}
theorem rt_73 {post : Int32 → St2 → Prop} {q : Nat → Nat → Nat → Nat → Bool} {nn : Nat → Nat} {p0 : Nat → Bool} (ok : ∀ r, r < 3 → rt_Ok a1 a2 a3 a4 a5 a6 a7 a8 (q r) r (nn r)) (hf : f < 7) (hW : ∀ r, r < 3 → rt_W p0 (q r) r (nn r) w) (hp : ∀ g, g < 7 → g ≠ f → p0 g = rt_h f0 g)
    (H : ∀ w' bf' bd' t', (∀ r, r < 3 → rt_W (rt_h f0) (q r) r (nn r) w') → post (nI f) (f0, a1, a2, a3, a4, a5, a6, a7, a8, w', bf', bd', t')) : ∃ m, wX_add_73 post (nI f) m 0 f0 a1 a2 a3 a4 a5 a6 a7 a8 w bf bd t := by
  refine pk_loop (σ := (Nat → Int64) × (Nat → Int64) × (Nat → Int32) × (Nat → Int32)) (fun m r s => wX_add_73 post (nI f) m (nI r) f0 a1 a2 a3 a4 a5 a6 a7 a8 s.1 s.2.1 s.2.2.1 s.2.2.2)
    (fun r s => (∀ r', r' < r → rt_W (rt_h f0) (q r') r' (nn r') s.1) ∧ (∀ r', r ≤ r' → r' < 3 → rt_W p0 (q r') r' (nn r') s.1)) 3 0 (w, bf, bd, t) (by omega) ⟨fun r' h => absurd h (by omega), fun r' _ h => hW r' h⟩ ?_ ?_
  · intro m s h
    exact pk_le 3 3 (fun _ => H s.1 s.2.1 s.2.2.1 s.2.2.2 h.1) (fun z => absurd z (by omega))
  · intro m r s hr h hw
    refine pk_le 3 r (fun z => absurd z (by omega)) (fun _ => rt_upd1 hr (ok r hr) hf (h.2 r (by omega) hr) hp (fun w' bf' bd' t' h1 h2 => nm_r (nI_1 r) (hw (w', bf', bd', t') ⟨fun r' hr' => ?_, fun r' hr1 hr2 => ?_⟩)))
    · show rt_W (rt_h f0) (q r') r' (nn r') w'
      by_cases e : r' = r
      · rw [e]
        exact h2
      · exact rt_Wf (ok r' (by omega)).2.1 e h1 (h.1 r' (by omega))
    · exact rt_Wf (ok r' hr2).2.1 (by omega) h1 (h.2 r' (by omega) hr2)
theorem rt_26 {post : Int32 → St2 → Prop} {q : Nat → Nat → Nat → Nat → Bool} {nn : Nat → Nat} {p0 : Nat → Bool} (ok : ∀ r, r < 3 → rt_Ok a1 a2 a3 a4 a5 a6 a7 a8 (q r) r (nn r)) (hf : f < 7) (hW : ∀ r, r < 3 → rt_W p0 (q r) r (nn r) w) (hp : ∀ g, g < 7 → g ≠ f → p0 g = rt_h f0 g)
    (H : ∀ w' bf' bd' t', (∀ r, r < 3 → rt_W (rt_h f0) (q r) r (nn r) w') → post 1 (f0, a1, a2, a3, a4, a5, a6, a7, a8, w', bf', bd', t')) : ∃ m, wX_remove_26 post (nI f) m 0 f0 a1 a2 a3 a4 a5 a6 a7 a8 w bf bd t := by
  refine pk_loop (σ := (Nat → Int64) × (Nat → Int64) × (Nat → Int32) × (Nat → Int32)) (fun m r s => wX_remove_26 post (nI f) m (nI r) f0 a1 a2 a3 a4 a5 a6 a7 a8 s.1 s.2.1 s.2.2.1 s.2.2.2)
    (fun r s => (∀ r', r' < r → rt_W (rt_h f0) (q r') r' (nn r') s.1) ∧ (∀ r', r ≤ r' → r' < 3 → rt_W p0 (q r') r' (nn r') s.1)) 3 0 (w, bf, bd, t) (by omega) ⟨fun r' h => absurd h (by omega), fun r' _ h => hW r' h⟩ ?_ ?_
  · intro m s h
    exact pk_le 3 3 (fun _ => H s.1 s.2.1 s.2.2.1 s.2.2.2 h.1) (fun z => absurd z (by omega))
  · intro m r s hr h hw
    refine pk_le 3 r (fun z => absurd z (by omega)) (fun _ => rt_upd1 hr (ok r hr) hf (h.2 r (by omega) hr) hp (fun w' bf' bd' t' h1 h2 => nm_r (nI_1 r) (hw (w', bf', bd', t') ⟨fun r' hr' => ?_, fun r' hr1 hr2 => ?_⟩)))
    · show rt_W (rt_h f0) (q r') r' (nn r') w'
      by_cases e : r' = r
      · rw [e]
        exact h2
      · exact rt_Wf (ok r' (by omega)).2.1 e h1 (h.1 r' (by omega))
    · exact rt_Wf (ok r' hr2).2.1 (by omega) h1 (h.2 r' (by omega) hr2)
theorem rt_fok {P : Int32 → Prop} (ha : a < 4) (hb : b < 4) (H : P 1) : wpX_factOk P () 0 (nI a) (nI b) :=
  br_f (by decide) (br_f (by decide) (br_f (nI_pos (by omega)) (br_f (nI_nlt (a := 3) (b := a) (by omega) (by omega)) (br_f (nI_pos (by omega)) (br_f (nI_nlt (a := 3) (b := b) (by omega) (by omega)) H)))))
theorem rt_add {post : Int32 → St2 → Prop} (hf : f < 7) (ha : a < 4) (hb : b < 4) (hlt : ∀ g, g < f → rt_h f0 g = true) (hfr : rt_h f0 f = false)
    (H : ∃ m, wX_add_73 post (nI f) m 0 (f0 ||| ((1 : Int32) <<< (nI f &&& 31))) (upd a1 f 0) (upd a2 f (nI a)) (upd a3 f (nI b)) a4 a5 a6 a7 a8 w bf bd t) : wpX_add post (f0, a1, a2, a3, a4, a5, a6, a7, a8, w, bf, bd, t) 0 (nI a) (nI b) := by
  unfold wpX_add
  refine rt_fok ha hb (br_f (by decide) ?_)
  refine pk_loop (σ := Unit) (fun m i _ => wX_add_14 post 0 (nI a) (nI b) f0 a1 a2 a3 a4 a5 a6 a7 a8 w bf bd t m (nI i)) (fun _ _ => True) f 0 () (Nat.zero_le _) trivial ?_ ?_
  · intro m _ _
    refine pk_le 7 f (fun z => absurd z (by omega)) (fun _ => rt_has hf (rt_br (fun e => ?_) (fun e => absurd e (by rw [hfr]; decide))))
    rw [nI_clamp (show f < 2 ^ 31 by omega)]
    exact nm_e ⟨pk_in f 7 hf, nm_r (e' := upd a1 f 0) (by rw [show (0 : Int32).toInt8.toInt32 = 0 from by decide]) ⟨pk_in f 7 hf, nm_r (e' := upd a2 f (nI a)) (by rw [rt_i8 a (by omega)]) ⟨pk_in f 7 hf, nm_r (e' := upd a3 f (nI b)) (by rw [rt_i8 b (by omega)]) H⟩⟩⟩
  · intro m i _ hi _ hw
    refine pk_le 7 i (fun z => absurd z (by omega)) (fun _ => rt_has (by omega) (rt_br (fun e => absurd e (by rw [hlt i hi]; decide)) (fun e => nm_r (nI_1 i) (hw () trivial))))
theorem rt_addF {post : Int32 → St2 → Prop} (ha : a < 4) (hb : b < 4) (hlt : ∀ g, g < 7 → rt_h f0 g = true) (H : post (-2) (f0, a1, a2, a3, a4, a5, a6, a7, a8, w, bf, bd, t)) : wpX_add post (f0, a1, a2, a3, a4, a5, a6, a7, a8, w, bf, bd, t) 0 (nI a) (nI b) := by
  unfold wpX_add
  refine rt_fok ha hb (br_f (by decide) ?_)
  refine pk_loop (σ := Unit) (fun m i _ => wX_add_14 post 0 (nI a) (nI b) f0 a1 a2 a3 a4 a5 a6 a7 a8 w bf bd t m (nI i)) (fun _ _ => True) 7 0 () (Nat.zero_le _) trivial ?_ ?_
  · intro m _ _
    exact pk_le 7 7 (fun _ => H) (fun z => absurd z (by omega))
  · intro m i _ hi _ hw
    refine pk_le 7 i (fun z => absurd z (by omega)) (fun _ => rt_has (by omega) (rt_br (fun e => absurd e (by rw [hlt i hi]; decide)) (fun e => nm_r (nI_1 i) (hw () trivial))))
theorem rt_rem {post : Int32 → St2 → Prop} (hf : f < 7) (hh : rt_h f0 f = true) (H : ∃ m, wX_remove_26 post (nI f) m 0 (f0 &&& (((1 : Int32) <<< (nI f &&& 31)) ^^^ (-1))) a1 a2 a3 a4 a5 a6 a7 a8 w bf bd t) : wpX_remove post (f0, a1, a2, a3, a4, a5, a6, a7, a8, w, bf, bd, t) (nI f) := by
  unfold wpX_remove
  exact rt_has hf (rt_br (fun e => absurd e (by rw [hh]; decide)) (fun _ => nm_e H))
theorem rt_cond {post : Int32 → St2 → Prop} {k v A B : Nat} {q : Nat → Nat → Nat → Bool} (hr : r < 3) (hn : n < 2) (hk : r * 3 + n = k) (hs : a4 r = nI n) (hv : v < 256) (hv4 : nI v &&& 3 = 0) (hA : (nI v >>> ((2 : Int32) &&& 31)) &&& 7 = nI A) (hB : (nI v >>> ((5 : Int32) &&& 31)) &&& 7 = nI B) (hA8 : A < 8) (hB8 : B < 8)
    (ok : rt_Ok a1 a2 a3 (upd a4 r (nI (n + 1))) (upd a5 k 0) (upd a6 k (nI A)) (upd a7 k (nI B)) (upd a8 k 0) q r (n + 1))
    (H : ∀ w' bf' bd' t', (∀ i, (i < r * 11 ∨ r * 11 + 11 ≤ i) → w' i = w i) → rt_W (rt_h f0) q r (n + 1) w' → post (nI (n + 1)) (f0, a1, a2, a3, upd a4 r (nI (n + 1)), upd a5 k 0, upd a6 k (nI A), upd a7 k (nI B), upd a8 k 0, w', bf', bd', t')) :
    wpX_condition post (f0, a1, a2, a3, a4, a5, a6, a7, a8, w, bf, bd, t) (nI r) (nI v) := by
  have hk9 : k < 9 := by omega
  have hc : nI r * 3 + nI n = nI k := by rw [rt_cell r hr n (by omega), hk]
  unfold wpX_condition
  refine rt_rule hr (br_f (by decide) (br_f (nI_pos (by omega)) (br_f (nI_nlt (a := 511) (b := v) (by omega) (by omega)) ?_)))
  rw [hv4]
  refine br_t (by decide) ⟨pk_in r 3 hr, ?_⟩
  rw [nI_clamp (show r < 2 ^ 31 by omega), hs]
  refine br_t (nI_lt (b := 3) (by omega) (by omega)) ⟨pk_in r 3 hr, nm_r hc ⟨pk_in k 9 hk9, ?_⟩⟩
  rw [nI_clamp (show k < 2 ^ 31 by omega)]
  refine nm_r (e' := upd a5 k 0) (by rw [show (0 : Int32).toInt8.toInt32 = 0 from by decide]) ⟨pk_in k 9 hk9, nm_r (e' := upd a6 k (nI A)) (by rw [hA, rt_i8 A hA8]) ⟨pk_in k 9 hk9, nm_r (e' := upd a7 k (nI B)) (by rw [hB, rt_i8 B hB8]) (br_t (nI_lt (b := 256) hv (by omega)) ?_)⟩⟩
  unfold wX_condition_104
  rw [nI_clamp (show k < 2 ^ 31 by omega), nI_clamp (show r < 2 ^ 31 by omega), hs]
  refine ⟨pk_in k 9 hk9, nm_r (e' := upd a8 k 0) rfl ⟨pk_in r 3 hr, pk_in r 3 hr, nm_r (e' := upd a4 r (nI (n + 1))) (by rw [nI_1, rt_i8 (n + 1) (by omega)]) (rt_upd0 hr ok (fun w' bf' bd' t' h1 h2 => And.intro (pk_in r 3 hr) ?_))⟩⟩
  rw [pk_us]
  exact H w' bf' bd' t' h1 h2
end
end
section
/-! ===== the class's answers ===== -/
def rt_s (f : Nat → Nat) : Nat → Nat
  | 0 => 0
  | m + 1 => rt_s f m + f m
/-- how many below m -/
def rt_n (X : Nat → Bool) (m : Nat) : Nat := rt_s (fun c => (X c).toNat) m
theorem rt_n0 {X : Nat → Bool} {c : Nat} (h : X c = false) : nI (rt_n X c) + 0 = nI (rt_n X (c + 1)) := by
  have e : rt_n X (c + 1) = rt_n X c + (X c).toNat := rfl
  rw [e, h, Int32.add_zero]
  rfl
theorem rt_n1 {X : Nat → Bool} {c : Nat} (h : X c = true) : nI (rt_n X c) + 1 = nI (rt_n X (c + 1)) := by
  have e : rt_n X (c + 1) = rt_n X c + (X c).toNat := rfl
  rw [e, h, nI_1]
  rfl
theorem rt_nle (X : Nat → Bool) (m : Nat) : rt_n X m ≤ m := by
  induction m with
  | zero => exact Nat.le_refl 0
  | succ m ih =>
    have e : rt_n X (m + 1) = rt_n X m + (X m).toNat := rfl
    have h : (X m).toNat ≤ 1 := by cases X m <;> decide
    omega
/-- a code's conditions hold fact f -/
def rt_hd : Nat → Nat → Nat → Bool
  | 0, _, _ => false
  | l + 1, c, f => rt_hd l c f || decide (c / 8 ^ l % 8 = f)
theorem rt_hm {i l c f : Nat} (h : rt_hd i c f = true) (hl : i ≤ l) : rt_hd l c f = true := by
  induction hl with
  | refl => exact h
  | step _ ih =>
    show (rt_hd _ c f || _) = true
    rw [ih, Bool.true_or]
theorem rt_sh : ∀ i, i < 2 → ∀ c, c < 64 → (nI c >>> ((3 * nI i) &&& 31)) &&& 7 = nI (c / 8 ^ i % 8) := by decide +kernel
theorem rt_l8 {l : Nat} (hl : l < 3) : 0 < 8 ^ l ∧ 8 ^ l ≤ 64 := by
  match l, hl with
  | 0, _ => decide
  | 1, _ => decide
  | 2, _ => decide
theorem rt_holds {post : Int32 → Prop} {l c f : Nat} (hl : l < 3) (hc : c < 64) (hf : f < 7) (H : post (rt_i (rt_hd l c f))) : wpX_holds post () (nI c) (nI l) (nI f) := by
  refine pk_loop (σ := Unit) (fun m i _ => wX_holds_2 post (nI c) (nI l) (nI f) m (nI i)) (fun i _ => rt_hd i c f = false) l 0 () (Nat.zero_le _) rfl ?_ ?_
  · intro m _ h
    rw [h] at H
    exact pk_le l l (fun _ => H) (fun z => absurd z (by omega))
  · intro m i _ hi h hw
    refine pk_le l i (fun z => absurd z (by omega)) (fun _ => ?_)
    rw [rt_sh i (by omega) c hc]
    have hm : c / 8 ^ i % 8 < 8 := Nat.mod_lt _ (by decide)
    refine pk_eq (c / 8 ^ i % 8) f (fun e => ?_) (fun e => nm_r (nI_1 i) (hw () ?_))
    · have h1 : rt_hd (i + 1) c f = true := by
        show (rt_hd i c f || decide (c / 8 ^ i % 8 = f)) = true
        rw [decide_eq_true e, Bool.or_true]
      rw [rt_hm h1 hi] at H
      exact H
    · show (rt_hd i c f || decide (c / 8 ^ i % 8 = f)) = false
      rw [h, decide_eq_false e]
      rfl
section
variable {f0 : Int32} {a1 a2 a3 a4 a5 a6 a7 a8 : Nat → Int32} {w bf : Nat → Int64} {bd t : Nat → Int32}
variable {r l n f a b : Nat} {X : Nat → Bool}
theorem rt_count {post : Int32 → Prop} (hr : r < 3) (hl : l < 3) (hX : ∀ c, c < 64 → rt_b (w (r * 11 + l)) c = X c) (H : post (nI (rt_n X (8 ^ l)))) : wpX_countAt post (f0, a1, a2, a3, a4, a5, a6, a7, a8, w, bf, bd, t) (nI r) (nI l) := by
  obtain ⟨h0, h8⟩ := rt_l8 hl
  refine pk_loop (σ := Unit) (fun m c _ => wX_countAt_5 post (nI r) (nI l) f0 a1 a2 a3 a4 a5 a6 a7 a8 w bf bd t m (nI (rt_n X c)) (nI c)) (fun _ _ => True) (8 ^ l) 0 () (Nat.zero_le _) trivial ?_ ?_
  · intro m _ _
    unfold wX_countAt_5
    exact rt_codes hl (pk_le (8 ^ l) (8 ^ l) (fun _ => H) (fun z => absurd z (by omega)))
  · intro m c _ hc _ hw
    unfold wX_countAt_5
    refine rt_codes hl (pk_le (8 ^ l) c (fun z => absurd z (by omega)) (fun _ => rt_isIn hr hl (by omega) (rt_br (fun e => ?_) (fun e => ?_))))
    · rw [hX c (by omega)] at e
      exact nm_r (rt_n0 e) (nm_r (nI_1 c) (hw () trivial))
    · rw [hX c (by omega)] at e
      exact nm_r (rt_n1 e) (nm_r (nI_1 c) (hw () trivial))
theorem rt_mat {post : Int32 → Prop} (hr : r < 3) (hl : l < 3) (hs : a4 r = nI l) (hX : ∀ c, c < 64 → rt_b (w (r * 11 + l)) c = X c) (H : post (nI (rt_n X (8 ^ l)))) : wpX_matches post (f0, a1, a2, a3, a4, a5, a6, a7, a8, w, bf, bd, t) (nI r) := by
  unfold wpX_matches
  refine rt_rule hr (br_f (by decide) ⟨pk_in r 3 hr, ?_⟩)
  rw [nI_clamp (show r < 2 ^ 31 by omega), hs]
  exact rt_count hr hl hX H
theorem rt_part {post : Int32 → Prop} (hr : r < 3) (hl : l < 3) (hn : l ≤ n) (hn3 : n < 3) (hs : a4 r = nI n) (hX : ∀ c, c < 64 → rt_b (w (r * 11 + l)) c = X c) (H : post (nI (rt_n X (8 ^ l)))) : wpX_partial post (f0, a1, a2, a3, a4, a5, a6, a7, a8, w, bf, bd, t) (nI r) (nI l) := by
  unfold wpX_partial
  refine rt_rule hr (br_f (by decide) (br_f (nI_pos (by omega)) ⟨pk_in r 3 hr, ?_⟩))
  rw [nI_clamp (show r < 2 ^ 31 by omega), hs]
  exact br_f (nI_nlt (by omega) (by omega)) (rt_count hr hl hX H)
theorem rt_partN {post : Int32 → Prop} (hr : r < 3) (hn : n < l) (hl : l < 8) (hs : a4 r = nI n) (H : post (-1)) : wpX_partial post (f0, a1, a2, a3, a4, a5, a6, a7, a8, w, bf, bd, t) (nI r) (nI l) := by
  unfold wpX_partial
  refine rt_rule hr (br_f (by decide) (br_f (nI_pos (by omega)) ⟨pk_in r 3 hr, ?_⟩))
  rw [nI_clamp (show r < 2 ^ 31 by omega), hs]
  exact br_t (nI_lt hn (by omega)) H
theorem rt_dropN {post : Int32 → St2 → Prop} (hr : r < 3) (hs : a4 r = nI 0) (H : post (-1) (f0, a1, a2, a3, a4, a5, a6, a7, a8, w, bf, bd, t)) : wpX_drop post (f0, a1, a2, a3, a4, a5, a6, a7, a8, w, bf, bd, t) (nI r) := by
  unfold wpX_drop
  refine rt_rule hr (br_f (by decide) ⟨pk_in r 3 hr, ?_⟩)
  rw [nI_clamp (show r < 2 ^ 31 by omega), hs]
  exact br_t rfl H
theorem rt_mis : ∀ l, l < 3 → (511 : Int32) &&& ((nI (8 ^ l) - 1) ^^^ (-1)) = nI (512 - 8 ^ l) := by decide +kernel
theorem rt_match {post : Int32 → Prop} (hr : r < 3) (hl : l < 3) (hs : a4 r = nI l) (hX : ∀ c, c < 64 → rt_b (w (r * 11 + l)) c = X c)
    (H0 : (∀ c, c < 8 ^ l → X c = false) → post (-1)) (H1 : ∀ c, c < 8 ^ l → X c = true → (∀ c', c' < c → X c' = false) → post (nI c ||| nI (512 - 8 ^ l))) : wpX_match post (f0, a1, a2, a3, a4, a5, a6, a7, a8, w, bf, bd, t) (nI r) 0 := by
  obtain ⟨h0, h8⟩ := rt_l8 hl
  unfold wpX_match
  refine rt_rule hr (br_f (by decide) ⟨pk_in r 3 hr, ?_⟩)
  rw [nI_clamp (show r < 2 ^ 31 by omega), hs]
  refine nm_e (rt_codes hl (nm_r (rt_mis l hl) ?_))
  refine pk_loop (σ := Unit) (fun m c _ => wX_match_36 post (nI r) 0 (nI l) (nI (512 - 8 ^ l)) f0 a1 a2 a3 a4 a5 a6 a7 a8 w bf bd t m 0 (nI c)) (fun c _ => ∀ c', c' < c → X c' = false) (8 ^ l) 0 () (Nat.zero_le _) (fun c h => absurd h (by omega)) ?_ ?_
  · intro m _ h
    unfold wX_match_36
    exact rt_codes hl (pk_le (8 ^ l) (8 ^ l) (fun _ => H0 h) (fun z => absurd z (by omega)))
  · intro m c _ hc h hw
    unfold wX_match_36
    refine rt_codes hl (pk_le (8 ^ l) c (fun z => absurd z (by omega)) (fun _ => rt_isIn hr hl (by omega) (rt_br (fun e => ?_) (fun e => ?_))))
    · rw [hX c (by omega)] at e
      refine nm_r (nI_1 c) (hw () (fun c' h' => ?_))
      by_cases e' : c' = c
      · rw [e']
        exact e
      · exact h c' (by omega)
    · rw [hX c (by omega)] at e
      exact br_t rfl (H1 c hc e h)
theorem rt_fitting {post : Int32 → Prop} {D : Nat} {bv : Nat → Nat} (hs : a4 0 = nI 2) (hh : ∀ g, g < 7 → rt_h f0 g = true) (hk : ∀ g, g < 7 → a1 g = a5 1) (hA : a6 1 = nI 5) (hB : a7 1 = nI D) (hD : D < 4) (hbv : ∀ g, bv g < 4) (hb : ∀ g, g < 7 → a3 g = nI (bv g))
    (H : post (nI (rt_n (fun g => decide (D = bv g)) 7))) : wpX_fitting post (f0, a1, a2, a3, a4, a5, a6, a7, a8, w, bf, bd, t) 0 1 := by
  unfold wpX_fitting
  refine rt_rule (r := 0) (by omega) (br_f (by decide) (br_f (by decide) ⟨pk_in 0 3 (by omega), br_t ?_ ?_⟩))
  · have e : a4 (0 : Int32).toNatClampNeg = nI 2 := hs
    rw [e]
    decide
  · refine pk_loop (σ := Unit) (fun m g _ => wX_fitting_28 post 0 1 f0 a1 a2 a3 a4 a5 a6 a7 a8 w bf bd t m (nI (rt_n (fun g => decide (D = bv g)) g)) (nI g)) (fun _ _ => True) 7 0 () (Nat.zero_le _) trivial ?_ ?_
    · intro m _ _
      exact pk_le 7 7 (fun _ => H) (fun z => absurd z (by omega))
    · intro m g _ hg _ hw
      refine pk_le 7 g (fun z => absurd z (by omega)) (fun _ => rt_has hg (rt_br (fun e => absurd e (by rw [hh g hg]; decide)) (fun _ => ?_)))
      have e1 : ((0 : Int32) * 3 + 1) = nI 1 := by decide
      rw [e1]
      refine And.intro (pk_in g 7 hg) (And.intro (pk_in 1 9 (by omega)) (br_t ?_ ⟨pk_in 1 9 (by omega), pk_in g 7 hg, ?_⟩))
      · rw [nI_clamp (show g < 2 ^ 31 by omega), nI_clamp (show 1 < 2 ^ 31 by omega)]
        exact hk g hg
      · rw [nI_clamp (show g < 2 ^ 31 by omega), nI_clamp (show 1 < 2 ^ 31 by omega), hA, hB, hb g hg]
        have h4 := hbv g
        refine br_t (by decide) (br_f (by decide) ⟨pk_in 1 9 (by omega), pk_in g 7 hg, br_f (nI_ge (b := 4) hD (by omega)) (pk_eq D (bv g) (fun e => ?_) (fun e => ?_))⟩)
        · exact br_f (by decide) (br_f (by decide) (nm_r (rt_n1 (X := fun g => decide (D = bv g)) (decide_eq_true e)) (nm_r (nI_1 g) (hw () trivial))))
        · exact br_t rfl (br_t rfl (nm_r (rt_n0 (X := fun g => decide (D = bv g)) (decide_eq_false e)) (nm_r (nI_1 g) (hw () trivial))))
def rt_rd (n0 n1 n2 : Nat) : Int32 := ((0 ||| (if n0 = 0 then 0 else 1)) ||| (if n1 = 0 then 0 else 2)) ||| (if n2 = 0 then 0 else 4)
theorem rt_ready {post : Int32 → Prop} {X0 X1 X2 : Nat → Bool} {l0 l1 l2 : Nat} (h0 : l0 < 3) (h1 : l1 < 3) (h2 : l2 < 3) (s0 : a4 0 = nI l0) (s1 : a4 1 = nI l1) (s2 : a4 2 = nI l2)
    (x0 : ∀ c, c < 64 → rt_b (w (0 * 11 + l0)) c = X0 c) (x1 : ∀ c, c < 64 → rt_b (w (1 * 11 + l1)) c = X1 c) (x2 : ∀ c, c < 64 → rt_b (w (2 * 11 + l2)) c = X2 c)
    (H : post (rt_rd (rt_n X0 (8 ^ l0)) (rt_n X1 (8 ^ l1)) (rt_n X2 (8 ^ l2)))) : wpX_ready post (f0, a1, a2, a3, a4, a5, a6, a7, a8, w, bf, bd, t) := by
  have b0 := rt_nle X0 (8 ^ l0)
  have b1 := rt_nle X1 (8 ^ l1)
  have b2 := rt_nle X2 (8 ^ l2)
  have c0 := (rt_l8 h0).2
  have c1 := (rt_l8 h1).2
  have c2 := (rt_l8 h2).2
  have fin : ∀ m v0 v1 v2, v0 = (if rt_n X0 (8 ^ l0) = 0 then 0 else 1 : Int32) → v1 = (if rt_n X1 (8 ^ l1) = 0 then 0 else 2 : Int32) → v2 = (if rt_n X2 (8 ^ l2) = 0 then 0 else 4 : Int32) → wX_ready_4 post f0 a1 a2 a3 a4 a5 a6 a7 a8 w bf bd t (m + 1) (((0 ||| v0) ||| v1) ||| v2) (nI 3) := by
    intro m v0 v1 v2 e0 e1 e2
    rw [e0, e1, e2]
    exact pk_le 3 3 (fun _ => H) (fun z => absurd z (by omega))
  have step2 : ∀ m v0 v1, v0 = (if rt_n X0 (8 ^ l0) = 0 then 0 else 1 : Int32) → v1 = (if rt_n X1 (8 ^ l1) = 0 then 0 else 2 : Int32) → wX_ready_4 post f0 a1 a2 a3 a4 a5 a6 a7 a8 w bf bd t (m + 1 + 1) ((0 ||| v0) ||| v1) (nI 2) := by
    intro m v0 v1 e0 e1
    exact pk_le 3 2 (fun z => absurd z (by omega)) (fun _ => rt_mat (by omega) h2 s2 x2 (pk_le (rt_n X2 (8 ^ l2)) 0
      (fun z => nm_e (nm_r (nI_1 2) (fin m v0 v1 0 e0 e1 (if_pos (by omega)).symm)))
      (fun z => nm_e (nm_r (nI_1 2) (fin m v0 v1 4 e0 e1 (if_neg (by omega)).symm)))))
  have step1 : ∀ m v0, v0 = (if rt_n X0 (8 ^ l0) = 0 then 0 else 1 : Int32) → wX_ready_4 post f0 a1 a2 a3 a4 a5 a6 a7 a8 w bf bd t (m + 1 + 1 + 1) (0 ||| v0) (nI 1) := by
    intro m v0 e0
    exact pk_le 3 1 (fun z => absurd z (by omega)) (fun _ => rt_mat (by omega) h1 s1 x1 (pk_le (rt_n X1 (8 ^ l1)) 0
      (fun z => nm_e (nm_r (nI_1 1) (step2 m v0 0 e0 (if_pos (by omega)).symm)))
      (fun z => nm_e (nm_r (nI_1 1) (step2 m v0 2 e0 (if_neg (by omega)).symm)))))
  refine Exists.intro (0 + 1 + 1 + 1 + 1) ?_
  exact pk_le 3 0 (fun z => absurd z (by omega)) (fun _ => rt_mat (r := 0) (by omega) h0 s0 x0 (pk_le (rt_n X0 (8 ^ l0)) 0
      (fun z => nm_e (nm_r (nI_1 0) (step1 0 0 (if_pos (by omega)).symm)))
      (fun z => nm_e (nm_r (nI_1 0) (step1 0 1 (if_neg (by omega)).symm)))))
/-- how many matches hold fact f -/
def rt_U (X : Nat → Nat → Bool) (nn : Nat → Nat) (f r : Nat) : Nat := rt_n (fun c => X r c && rt_hd (nn r) c f) (8 ^ nn r)
theorem rt_usesN {post : Int32 → Prop} (hf : f < 7) (hh : rt_h f0 f = false) (H : post (-1)) : wpX_uses post (f0, a1, a2, a3, a4, a5, a6, a7, a8, w, bf, bd, t) (nI f) := by
  unfold wpX_uses
  exact rt_has hf (rt_br (fun _ => H) (fun e => absurd e (by rw [hh]; decide)))
theorem rt_uses {post : Int32 → Prop} {X : Nat → Nat → Bool} {nn : Nat → Nat} (hf : f < 7) (hh : rt_h f0 f = true) (hs : ∀ r, r < 3 → a4 r = nI (nn r)) (hn : ∀ r, r < 3 → nn r < 3) (hX : ∀ r, r < 3 → ∀ c, c < 64 → rt_b (w (r * 11 + nn r)) c = X r c)
    (H : post (nI (rt_s (rt_U X nn f) 3))) : wpX_uses post (f0, a1, a2, a3, a4, a5, a6, a7, a8, w, bf, bd, t) (nI f) := by
  unfold wpX_uses
  refine rt_has hf (rt_br (fun e => absurd e (by rw [hh]; decide)) (fun _ => ?_))
  refine pk_loop (σ := Unit) (fun m r _ => wX_uses_14 post (nI f) f0 a1 a2 a3 a4 a5 a6 a7 a8 w bf bd t m (nI (rt_s (rt_U X nn f) r)) (nI r)) (fun _ _ => True) 3 0 () (by omega) trivial ?_ ?_
  · intro m _ _
    exact pk_le 3 3 (fun _ => H) (fun z => absurd z (by omega))
  · intro m r _ hr _ hw
    have hl := hn r hr
    obtain ⟨h0, h8⟩ := rt_l8 hl
    refine pk_le 3 r (fun z => absurd z (by omega)) (fun _ => ⟨pk_in r 3 hr, ?_⟩)
    rw [nI_clamp (show r < 2 ^ 31 by omega), hs r hr]
    refine nm_e ?_
    have a0 : ∀ v c : Nat, (fun c => X r c && rt_hd (nn r) c f) c = false → nI (v + rt_n (fun c => X r c && rt_hd (nn r) c f) c) + 0 = nI (v + rt_n (fun c => X r c && rt_hd (nn r) c f) (c + 1)) := by
      intro v c h
      rw [← nI_add, ← nI_add, ← rt_n0 h, Int32.add_zero, Int32.add_zero]
    have a1' : ∀ v c : Nat, (fun c => X r c && rt_hd (nn r) c f) c = true → nI (v + rt_n (fun c => X r c && rt_hd (nn r) c f) c) + 1 = nI (v + rt_n (fun c => X r c && rt_hd (nn r) c f) (c + 1)) := by
      intro v c h
      rw [← nI_add, ← nI_add, ← rt_n1 h, Int32.add_assoc]
    refine pk_loop (σ := Unit) (fun m c _ => wX_uses_30 post (wX_uses_14 post (nI f) f0 a1 a2 a3 a4 a5 a6 a7 a8 w bf bd t _) (nI f) (nI r) (nI (nn r)) f0 a1 a2 a3 a4 a5 a6 a7 a8 w bf bd t m (nI (rt_s (rt_U X nn f) r + rt_n (fun c => X r c && rt_hd (nn r) c f) c)) (nI c)) (fun _ _ => True) (8 ^ nn r) 0 () (Nat.zero_le _) trivial ?_ ?_
    · intro m _ _
      unfold wX_uses_30
      exact rt_codes hl (pk_le (8 ^ nn r) (8 ^ nn r) (fun _ => nm_r (nI_1 r) (hw () trivial)) (fun z => absurd z (by omega)))
    · intro m c _ hc _ hw'
      unfold wX_uses_30
      refine rt_codes hl (pk_le (8 ^ nn r) c (fun z => absurd z (by omega)) (fun _ => rt_isIn hr hl (by omega) (rt_br (fun e => ?_) (fun e => rt_holds hl (by omega) hf (rt_br (fun e2 => ?_) (fun e2 => ?_))))))
      · rw [hX r hr c (by omega)] at e
        exact nm_r (a0 _ c (by show (X r c && _) = false; rw [e, Bool.false_and])) (nm_r (nI_1 c) (hw' () trivial))
      · exact nm_r (a0 _ c (by show (X r c && rt_hd (nn r) c f) = false; rw [e2, Bool.and_false])) (nm_r (nI_1 c) (hw' () trivial))
      · rw [hX r hr c (by omega)] at e
        exact nm_r (a1' _ c (by show (X r c && rt_hd (nn r) c f) = true; rw [e, e2, Bool.and_true])) (nm_r (nI_1 c) (hw' () trivial))
end
end
section
/-! ===== counting, pure ===== -/
theorem rt_s_ext {f g : Nat → Nat} (m : Nat) (h : ∀ k, k < m → f k = g k) : rt_s f m = rt_s g m := by
  induction m with
  | zero => rfl
  | succ m ih =>
    show rt_s f m + f m = rt_s g m + g m
    rw [ih (fun k hk => h k (by omega)), h m (by omega)]
theorem rt_s_z (m : Nat) : rt_s (fun _ => 0) m = 0 := by
  induction m with
  | zero => rfl
  | succ m ih =>
    show rt_s (fun _ => 0) m + 0 = 0
    rw [ih]
theorem rt_s_add (f g : Nat → Nat) (m : Nat) : rt_s (fun k => f k + g k) m = rt_s f m + rt_s g m := by
  induction m with
  | zero => rfl
  | succ m ih =>
    show rt_s (fun k => f k + g k) m + (f m + g m) = (rt_s f m + f m) + (rt_s g m + g m)
    rw [ih]
    omega
theorem rt_s_app (f : Nat → Nat) (a b : Nat) : rt_s f (a + b) = rt_s f a + rt_s (fun i => f (a + i)) b := by
  induction b with
  | zero => rfl
  | succ b ih =>
    show rt_s f (a + b) + f (a + b) = rt_s f a + (rt_s (fun i => f (a + i)) b + f (a + b))
    rw [ih]
    omega
theorem rt_s_swap (F : Nat → Nat → Nat) (m n : Nat) : rt_s (fun i => rt_s (fun j => F i j) n) m = rt_s (fun j => rt_s (fun i => F i j) m) n := by
  induction m with
  | zero => exact (rt_s_z n).symm
  | succ m ih =>
    show rt_s (fun i => rt_s (fun j => F i j) n) m + rt_s (fun j => F m j) n = rt_s (fun j => rt_s (fun i => F i j) m + F m j) n
    rw [ih, rt_s_add]
theorem rt_s_blk (f : Nat → Nat) (d n : Nat) : rt_s f (n * d) = rt_s (fun j => rt_s (fun i => f (j * d + i)) d) n := by
  induction n with
  | zero => rw [Nat.zero_mul]; rfl
  | succ n ih =>
    show rt_s f ((n + 1) * d) = rt_s (fun j => rt_s (fun i => f (j * d + i)) d) n + rt_s (fun i => f (n * d + i)) d
    rw [Nat.succ_mul, rt_s_app, ih]
theorem rt_n_ext {X Y : Nat → Bool} (m : Nat) (h : ∀ k, k < m → X k = Y k) : rt_n X m = rt_n Y m := rt_s_ext m (fun k hk => by rw [h k hk])
theorem rt_n_split (X Y : Nat → Bool) (m : Nat) : rt_n (fun c => X c && Y c) m + rt_n (fun c => X c && !Y c) m = rt_n X m := by
  unfold rt_n
  rw [← rt_s_add]
  refine rt_s_ext m (fun k _ => ?_)
  show (X k && Y k).toNat + (X k && !Y k).toNat = (X k).toNat
  cases X k <;> cases Y k <;> rfl
theorem rt_n_one {Y : Nat → Bool} {f : Nat} {v : Bool} (m : Nat) (h : ∀ c, c < m → Y c = (v && decide (c = f))) : rt_n Y m = if f < m then v.toNat else 0 := by
  induction m with
  | zero => rfl
  | succ m ih =>
    have e : rt_n Y (m + 1) = rt_n Y m + (Y m).toNat := rfl
    rw [e, ih (fun c hc => h c (by omega)), h m (by omega)]
    by_cases hm : m = f
    · rw [if_neg (by omega), if_pos (by omega), decide_eq_true hm, Bool.and_true, Nat.zero_add]
    · rw [decide_eq_false hm, Bool.and_false]
      by_cases hf : f < m
      · rw [if_pos hf, if_pos (by omega)]
        rfl
      · rw [if_neg hf, if_neg (by omega)]
        rfl
/-! ===== the two rules of the law, pure ===== -/
def rt_q (D : Nat) (bv : Nat → Nat) (r l c g : Nat) : Bool := if r = 0 then (if l = 0 then true else (decide (bv c = g % 4) && decide (D = bv g))) else decide (g % 4 = bv g)
section
variable {p p' : Nat → Bool} {q : Nat → Nat → Nat → Bool} {D f : Nat} {bv : Nat → Nat}
theorem rt_T1 {i : Nat} (hi : i < 7) : rt_T p q 1 i = (p i && q 0 0 i) := by
  have h := rt_Tn (p := p) (q := q) (l := 0) (c := 0) (g := i) (by decide) hi
  rw [Nat.pow_zero, Nat.mul_one, Nat.zero_add i] at h
  rw [h]
  rfl
theorem rt_T2 {i j : Nat} (hi : i < 7) (hj : j < 7) : rt_T p q 2 (i + j * 8) = ((p i && q 0 0 i) && (p j && q 1 i j)) := by
  have h := rt_Tn (p := p) (q := q) (l := 1) (c := i) (g := j) (by rw [Nat.pow_one]; omega) hj
  rw [Nat.pow_one] at h
  rw [h, rt_T1 hi]
theorem rt_T1b {c : Nat} (h : rt_T p q 1 c = true) : c < 7 := rt_T7 (l := 1) (by omega) h
theorem rt_T2b {c : Nat} (h : rt_T p q 2 c = true) : c % 8 < 7 ∧ c / 8 < 7 := by
  have h1 := rt_Td h
  rw [Nat.pow_one] at h1
  exact ⟨rt_T1b h1.2, h1.1⟩
theorem rt_T2c {c : Nat} (h : rt_T p q 2 c = true) : c < 64 ∧ q 1 (c % 8) (c / 8) = true := by
  have hb := rt_T2b h
  have e : c = c % 8 + c / 8 * 8 := by omega
  have h2 := rt_T2 (p := p) (q := q) hb.1 hb.2
  rw [← e, h] at h2
  refine ⟨by omega, ?_⟩
  have h3 := h2.symm
  rw [Bool.and_eq_true, Bool.and_eq_true, Bool.and_eq_true] at h3
  exact h3.2.2
/-- all pairs, one way or the other -/
theorem rt_joins (hp : ∀ g, g < 7 → p g = true) (h0 : ∀ g, q 0 0 g = true) : rt_n (rt_T p q 2) (8 ^ 2) = rt_s (fun i => rt_s (fun j => (q 1 i j).toNat) 7) 7 := by
  have e : rt_n (rt_T p q 2) (8 ^ 2) = rt_s (fun j => rt_s (fun i => (rt_T p q 2 (j * 8 + i)).toNat) 8) 8 := rt_s_blk _ 8 8
  rw [e, rt_s_swap]
  have z : ∀ i j, (7 ≤ i ∨ 7 ≤ j) → i < 8 → (rt_T p q 2 (j * 8 + i)).toNat = 0 := by
    intro i j h hi
    have h1 : rt_T p q 2 (j * 8 + i) = false := rt_nt (fun t => by
      have hb := rt_T2b t
      omega)
    rw [h1]
    rfl
  have e1 : ∀ i, i < 7 → rt_s (fun j => (rt_T p q 2 (j * 8 + i)).toNat) 8 = rt_s (fun j => (q 1 i j).toNat) 7 := by
    intro i hi
    show rt_s (fun j => (rt_T p q 2 (j * 8 + i)).toNat) 7 + (rt_T p q 2 (7 * 8 + i)).toNat = _
    rw [z i 7 (by omega) (by omega), Nat.add_zero]
    refine rt_s_ext 7 (fun j hj => ?_)
    rw [Nat.add_comm, rt_T2 hi hj, hp i hi, hp j hj, h0]
    rfl
  show rt_s (fun i => rt_s (fun j => (rt_T p q 2 (j * 8 + i)).toNat) 8) 7 + rt_s (fun j => (rt_T p q 2 (j * 8 + 7)).toNat) 8 = _
  rw [rt_s_ext 7 e1, rt_s_ext (g := fun _ => 0) 8 (fun j _ => z 7 j (by omega) (by omega)), rt_s_z, Nat.add_zero]
theorem rt_ones (hp : ∀ g, g < 7 → p g = true) : rt_n (rt_T p q 1) (8 ^ 1) = rt_s (fun i => (q 0 0 i).toNat) 7 := by
  show rt_s (fun c => (rt_T p q 1 c).toNat) 7 + (rt_T p q 1 7).toNat = _
  have z : rt_T p q 1 7 = false := rt_nt (fun t => absurd (rt_T1b t) (by omega))
  rw [z]
  show rt_s (fun c => (rt_T p q 1 c).toNat) 7 = _
  refine rt_s_ext 7 (fun i hi => ?_)
  rw [rt_T1 hi, hp i hi, Bool.true_and]
/-- without fact f -/
theorem rt_Tr {l c : Nat} (hp : ∀ g, g < 7 → p' g = (p g && !decide (g = f))) : rt_T p' q (l + 1) c = (rt_T p' q l (c % 8 ^ l) && ((decide (c / 8 ^ l < 7) && (p (c / 8 ^ l) && q l (c % 8 ^ l) (c / 8 ^ l))) && !decide (c / 8 ^ l = f))) := by
  show (rt_T p' q l (c % 8 ^ l) && (decide (c / 8 ^ l < 7) && (p' (c / 8 ^ l) && q l (c % 8 ^ l) (c / 8 ^ l)))) = _
  by_cases h : c / 8 ^ l < 7
  · rw [hp _ h]
    cases rt_T p' q l (c % 8 ^ l) <;> cases p (c / 8 ^ l) <;> cases q l (c % 8 ^ l) (c / 8 ^ l) <;> cases decide (c / 8 ^ l = f) <;> simp
  · rw [decide_eq_false h, Bool.false_and, Bool.false_and, Bool.false_and]
theorem rt_Tr1 {c : Nat} (hp : ∀ g, g < 7 → p' g = (p g && !decide (g = f))) (hc : c < 8) : rt_T p' q 1 c = (rt_T p q 1 c && !rt_hd 1 c f) := by
  rw [rt_Tr hp]
  have e : rt_hd 1 c f = decide (c / 8 ^ 0 = f) := by
    show (false || decide (c / 8 ^ 0 % 8 = f)) = _
    rw [Bool.false_or, Nat.mod_eq_of_lt (by rw [Nat.pow_zero, Nat.div_one]; exact hc)]
  rw [e, ← Bool.and_assoc]
  rfl
theorem rt_Tr2 {c : Nat} (hp : ∀ g, g < 7 → p' g = (p g && !decide (g = f))) (hc : c < 64) : rt_T p' q 2 c = (rt_T p q 2 c && !rt_hd 2 c f) := by
  rw [rt_Tr (l := 1) hp, rt_Tr1 hp (by rw [Nat.pow_one]; omega)]
  have e : rt_hd 2 c f = (rt_hd 1 (c % 8 ^ 1) f || decide (c / 8 ^ 1 = f)) := by
    show ((false || decide (c / 8 ^ 0 % 8 = f)) || decide (c / 8 ^ 1 % 8 = f)) = ((false || decide (c % 8 ^ 1 / 8 ^ 0 % 8 = f)) || _)
    rw [Nat.pow_one, Nat.pow_zero, Nat.div_one, Nat.div_one, Nat.mod_mod, Nat.mod_eq_of_lt (show c / 8 < 8 by omega)]
  have e2 : rt_T p q 2 c = (rt_T p q 1 (c % 8 ^ 1) && (decide (c / 8 ^ 1 < 7) && (p (c / 8 ^ 1) && q 1 (c % 8 ^ 1) (c / 8 ^ 1)))) := rfl
  rw [e, e2]
  generalize rt_T p q 1 (c % 8 ^ 1) = A
  generalize (decide (c / 8 ^ 1 < 7) && (p (c / 8 ^ 1) && q 1 (c % 8 ^ 1) (c / 8 ^ 1))) = B
  generalize rt_hd 1 (c % 8 ^ 1) f = C
  generalize decide (c / 8 ^ 1 = f) = E
  cases A <;> cases B <;> cases C <;> cases E <;> rfl
theorem rt_left (hp : ∀ g, g < 7 → p' g = (p g && !decide (g = f))) : rt_n (fun c => rt_T p q 2 c && rt_hd 2 c f) (8 ^ 2) + rt_n (rt_T p' q 2) (8 ^ 2) = rt_n (rt_T p q 2) (8 ^ 2) := by
  rw [rt_n_ext (8 ^ 2) (fun c hc => rt_Tr2 (q := q) hp hc)]
  exact rt_n_split _ _ _
theorem rt_rest (hp : ∀ g, g < 7 → p' g = (p g && !decide (g = f))) : rt_n (fun c => rt_T p q 1 c && rt_hd 1 c f) (8 ^ 1) + rt_n (rt_T p' q 1) (8 ^ 1) = rt_n (rt_T p q 1) (8 ^ 1) := by
  rw [rt_n_ext (8 ^ 1) (fun c hc => rt_Tr1 (q := q) hp hc)]
  exact rt_n_split _ _ _
theorem rt_own (hf : f < 7) (hp : p f = true) : rt_n (fun c => rt_T p q 1 c && rt_hd 1 c f) (8 ^ 1) = (q 0 0 f).toNat := by
  have h : rt_n (fun c => rt_T p q 1 c && rt_hd 1 c f) (8 ^ 1) = if f < 8 ^ 1 then (rt_T p q 1 f).toNat else 0 := by
    refine rt_n_one (8 ^ 1) (fun c hc => ?_)
    rw [Nat.pow_one] at hc
    show (rt_T p q 1 c && (false || decide (c / 8 ^ 0 % 8 = f))) = _
    rw [Nat.pow_zero, Nat.div_one, Nat.mod_eq_of_lt hc, Bool.false_or]
    by_cases e : c = f
    · rw [e]
    · rw [decide_eq_false e, Bool.and_false, Bool.and_false]
  rw [h, if_pos (by rw [Nat.pow_one]; omega), rt_T1 hf, hp, Bool.true_and]
end
/-! ===== the least code ===== -/
def rt_F (x : Int32) (P : Nat → Prop) : Prop := (x = -1 ∧ ∀ c, ¬ P c) ∨ (∃ m, m < 64 ∧ x = nI (m + 448) ∧ P m ∧ ∀ c, P c → m ≤ c)
theorem rt_Fc {x : Int32} {P Q : Nat → Prop} (h : rt_F x P) (e : ∀ c, P c ↔ Q c) : rt_F x Q := by
  rcases h with ⟨h1, h2⟩ | ⟨m, h1, h2, h3, h4⟩
  · exact Or.inl ⟨h1, fun c hc => h2 c ((e c).mpr hc)⟩
  · exact Or.inr ⟨m, h1, h2, (e m).mp h3, fun c hc => h4 c ((e c).mpr hc)⟩
theorem rt_Fs {x : Int32} {P : Nat → Prop} {d : Nat} {J : Int32 → Prop} (hd : d < 64) (h : rt_F x P) (HJ : ∀ y, rt_F y (fun c => P c ∨ c = d) → J y) :
    (x < 0 → J (nI (d + 448))) ∧ (¬ x < 0 → ((x ≤ nI (d + 448) → J x) ∧ (¬ x ≤ nI (d + 448) → J (nI (d + 448))))) := by
  rcases h with ⟨h1, h2⟩ | ⟨m, h1, h2, h3, h4⟩
  · refine br_t (by rw [h1]; decide) (HJ _ (Or.inr ⟨d, hd, rfl, Or.inr rfl, fun c hc => ?_⟩))
    rcases hc with hc | hc
    · exact absurd hc (h2 c)
    · omega
  · refine br_f (by rw [h2]; exact nI_pos (by omega)) ?_
    rw [h2]
    refine pk_le (m + 448) (d + 448) (fun z => HJ _ (Or.inr ⟨m, h1, rfl, Or.inl h3, fun c hc => ?_⟩)) (fun z => HJ _ (Or.inr ⟨d, hd, rfl, Or.inr rfl, fun c hc => ?_⟩))
    · rcases hc with hc | hc
      · exact h4 c hc
      · omega
    · rcases hc with hc | hc
      · have := h4 c hc
        omega
      · omega
theorem rt_Fn {x : Int32} {X : Nat → Bool} (h : rt_F x (fun c => X c = true ∧ 0 ≤ c % 8)) (h0 : ∀ c, c < 64 → X c = false) : x = -1 := by
  rcases h with ⟨h1, _⟩ | ⟨m, h1, _, h3, _⟩
  · exact h1
  · rw [h0 m h1] at h3
    exact absurd h3.1 (by decide)
theorem rt_Fy {x : Int32} {X : Nat → Bool} {c : Nat} (h : rt_F x (fun c => X c = true ∧ 0 ≤ c % 8)) (hc : c < 64) (hX : X c = true) (h0 : ∀ c', c' < c → X c' = false) : x = nI (c + 448) := by
  rcases h with ⟨_, h2⟩ | ⟨m, h1, h2, h3, h4⟩
  · exact absurd ⟨hX, Nat.zero_le _⟩ (h2 c)
  · have hm : m ≤ c := h4 c ⟨hX, Nat.zero_le _⟩
    have hm2 : ¬ m < c := fun z => by
      rw [h0 m z] at h3
      exact absurd h3.1 (by decide)
    have e : m = c := by omega
    rw [h2, e]
end
section
/-! ===== the law's rules ===== -/
def rt_Dt (bv : Nat → Nat) (a1 a2 a3 : Nat → Int32) : Prop := (∀ x, x < 7 → a1 x = 0) ∧ (∀ x, x < 7 → a2 x = nI (x % 4)) ∧ (∀ x, x < 7 → a3 x = nI (bv x))
theorem rt_us {y F : Nat → Int32} {f : Nat} (h : ∀ x, x < 7 → y x = F x) : ∀ x, x < 7 → upd y f (F f) x = F x := by
  intro x hx
  by_cases e : x = f
  · rw [e, pk_us]
  · rw [pk_un e]
    exact h x hx
theorem rt_Du {bv : Nat → Nat} {a1 a2 a3 : Nat → Int32} {f : Nat} (h : rt_Dt bv a1 a2 a3) : rt_Dt bv (upd a1 f 0) (upd a2 f (nI (f % 4))) (upd a3 f (nI (bv f))) :=
  ⟨rt_us (F := fun _ => 0) h.1, rt_us (F := fun x => nI (x % 4)) h.2.1, rt_us (F := fun x => nI (bv x)) h.2.2⟩
section
variable {f0 : Int32} {a1 a2 a3 a4 a5 a6 a7 a8 : Nat → Int32} {w bf : Nat → Int64} {bd t : Nat → Int32}
variable {D : Nat} {bv : Nat → Nat}
theorem rt_lv00 (hd : rt_Dt bv a1 a2 a3) (hbv : ∀ i, bv i < 4) (h5 : a5 0 = 0) (h6 : a6 0 = nI 4) (h7 : a7 0 = nI 5) (h8 : a8 0 = 0) : rt_Lv a1 a2 a3 a4 a5 a6 a7 a8 (rt_q D bv 0) 0 0 := by
  refine ⟨h8, fun c hc => ⟨fun bd => bd 0 = 4 ∧ bd 1 = 4 ∧ bd 2 = 4, ?_, ?_⟩⟩
  · intro f0 post w bf bd t H
    exact rt_bind0 (fun bd' z0 z1 z2 => H bd' t ⟨z0, z1, z2⟩)
  · intro f0 post w bf bd t g hB hg H
    exact rt_fA (k := 0) (av := g % 4) (bv := bv g) (by omega) hg ((hd.1 g hg).trans h5.symm) h6 h7 (hd.2.1 g hg) (hd.2.2 g hg) (Nat.mod_lt _ (by decide)) (hbv g) hB.1 hB.2.1 hB.2.2 (fun t' _ _ _ => rt_f94b (H t'))
theorem rt_lv01 (hd : rt_Dt bv a1 a2 a3) (hbv : ∀ i, bv i < 4) (hD : D < 4) (h5 : a5 0 = 0) (h6 : a6 0 = nI 4) (h7 : a7 0 = nI 5) (k5 : a5 1 = 0) (k6 : a6 1 = nI 5) (k7 : a7 1 = nI D) (k8 : a8 1 = 0) : rt_Lv a1 a2 a3 a4 a5 a6 a7 a8 (rt_q D bv 0) 0 1 := by
  refine ⟨k8, fun c hc => ⟨fun bd => bd 0 = nI (c % 4) ∧ bd 1 = nI (bv c) ∧ bd 2 = 4, ?_, ?_⟩⟩
  · intro f0 post w bf bd t H
    rw [Nat.pow_one] at hc
    exact rt_bind1 (av := c % 4) (bv := bv c) hc ((hd.1 c hc).trans h5.symm) h6 h7 (hd.2.1 c hc) (hd.2.2 c hc) (Nat.mod_lt _ (by decide)) (hbv c) (fun bd' t' z0 z1 z2 => H bd' t' ⟨z0, z1, z2⟩)
  · intro f0 post w bf bd t g hB hg H
    have h4 : c % 4 < 4 := Nat.mod_lt _ (by decide)
    exact rt_fB (k := 1) (av := g % 4) (bv := bv g) (y := bv c) (D := D) (by omega) hg ((hd.1 g hg).trans k5.symm) k6 k7 (hd.2.1 g hg) (hd.2.2 g hg) (Nat.mod_lt _ (by decide)) (hbv g) (hbv c) hD ⟨c % 4, by omega, hB.1⟩ hB.2.1 hB.2.2 H
theorem rt_lv10 (hd : rt_Dt bv a1 a2 a3) (hbv : ∀ i, bv i < 4) (k5 : a5 3 = 0) (k6 : a6 3 = nI 6) (k7 : a7 3 = nI 6) (k8 : a8 3 = 0) : rt_Lv a1 a2 a3 a4 a5 a6 a7 a8 (rt_q D bv 1) 1 0 := by
  refine ⟨k8, fun c hc => ⟨fun bd => bd 0 = 4 ∧ bd 1 = 4 ∧ bd 2 = 4, ?_, ?_⟩⟩
  · intro f0 post w bf bd t H
    exact rt_bind0 (fun bd' z0 z1 z2 => H bd' t ⟨z0, z1, z2⟩)
  · intro f0 post w bf bd t g hB hg H
    exact rt_fC (k := 3) (av := g % 4) (bv := bv g) (by omega) hg ((hd.1 g hg).trans k5.symm) k6 k7 (hd.2.1 g hg) (hd.2.2 g hg) (Nat.mod_lt _ (by decide)) (hbv g) hB.1 hB.2.1 hB.2.2 H
/-- the arrays behind the three conditions -/
def rt_G (D : Nat) (bv : Nat → Nat) (a1 a2 a3 a4 a5 a6 a7 a8 : Nat → Int32) : Prop := rt_Dt bv a1 a2 a3 ∧ a4 0 = nI 2 ∧ a4 1 = nI 1 ∧ a4 2 = nI 0 ∧ a5 0 = 0 ∧ a6 0 = nI 4 ∧ a7 0 = nI 5 ∧ a8 0 = 0 ∧ a5 1 = 0 ∧ a6 1 = nI 5 ∧ a7 1 = nI D ∧ a8 1 = 0 ∧ a5 3 = 0 ∧ a6 3 = nI 6 ∧ a7 3 = nI 6 ∧ a8 3 = 0
theorem rt_ok (hG : rt_G D bv a1 a2 a3 a4 a5 a6 a7 a8) (hbv : ∀ i, bv i < 4) (hD : D < 4) : ∀ r, r < 3 → rt_Ok a1 a2 a3 a4 a5 a6 a7 a8 (rt_q D bv r) r (2 - r) := by
  obtain ⟨hd, s0, s1, s2, h5, h6, h7, h8, k5, k6, k7, k8, m5, m6, m7, m8⟩ := hG
  intro r hr
  match r, hr with
  | 0, _ =>
    refine ⟨s0, by omega, fun l hl => ?_⟩
    match l, hl with
    | 0, _ => exact rt_lv00 hd hbv h5 h6 h7 h8
    | 1, _ => exact rt_lv01 hd hbv hD h5 h6 h7 k5 k6 k7 k8
  | 1, _ =>
    refine ⟨s1, by omega, fun l hl => ?_⟩
    match l, hl with
    | 0, _ => exact rt_lv10 hd hbv m5 m6 m7 m8
  | 2, _ => exact ⟨s2, by omega, fun l hl => absurd hl (by omega)⟩
theorem rt_Gu {f : Nat} (hG : rt_G D bv a1 a2 a3 a4 a5 a6 a7 a8) : rt_G D bv (upd a1 f 0) (upd a2 f (nI (f % 4))) (upd a3 f (nI (bv f))) a4 a5 a6 a7 a8 := ⟨rt_Du hG.1, hG.2⟩
end
/-! ===== the law's own loops ===== -/
def rt_Pm (X : Nat → Bool) (m c : Nat) : Prop := X c = true ∧ m ≤ c % 8
def rt_Pj (X : Nat → Bool) (m j c : Nat) : Prop := X c = true ∧ (m + 1 ≤ c % 8 ∨ (c % 8 = m ∧ c / 8 < j))
theorem rt_x18 : ∀ i, i < 7 → ∀ j, j < 7 → (nI i + 8 * nI j) + 448 = nI (i + j * 8 + 448) := by decide +kernel
theorem rt_a3 : ∀ j, j < 7 → nI j &&& 3 = nI (j % 4) := by decide +kernel
section
variable {f0 : Int32} {a1 a2 a3 a4 a5 a6 a7 a8 : Nat → Int32} {w bf : Nat → Int64} {bd t : Nat → Int32}
variable {D : Nat} {bv : Nat → Nat} {post : Int32 → St0 → Prop} {mc ms kc ks : Nat} {x0 x2 x4 x6 x7 x8 : Int32}
theorem rt_215 {J : Int32 → Int32 → Int32 → Int32 → Int32 → Prop} {J1 : Int32 → Int32 → Int32 → Prop} {x5 x10 x11 x12 x15 : Int32} {v i j : Nat} {on : Bool} {P : Nat → Prop} (hi : i < 7) (hj : j < 7) (hF : rt_F x11 P)
    (H0 : on = false → J1 (nI v) x11 (nI (j + 1))) (H1 : on = true → ∀ y, rt_F y (fun c => P c ∨ c = i + j * 8) → J1 (nI (v + 1)) y (nI (j + 1))) :
    wL_lawOf_215 post mc ms J J1 x0 x2 x4 x5 x6 x7 x8 (nI v) x10 x11 x12 (nI i) x15 (nI j) (rt_i on) kc ks f0 a1 a2 a3 a4 a5 a6 a7 a8 w bf bd t := by
  refine nm_r (rt_x18 i hi j hj) (rt_br (fun e => ?_) (fun e => ?_))
  · exact rt_br (fun e' => nm_r (nI_1 j) (H0 e')) (fun e' => absurd e' (by rw [e]; decide))
  · rw [nI_1 v]
    refine rt_br (fun e' => absurd e' (by rw [e]; decide)) (fun e' => ?_)
    exact rt_Fs (J := fun y => ∀ x, x = nI j + 1 → J1 (nI (v + 1)) y x) (by omega) hF (fun y hy => nm_r (nI_1 j) (H1 e y hy))
theorem rt_181 {J : Int32 → Int32 → Int32 → Int32 → Int32 → Prop} {x10 x11 x12 : Int32} {s i : Nat} {X : Nat → Bool} (hi : i < 7) (hv : ∀ j, (x0 >>> ((2 * nI j) &&& 31)) &&& 3 = nI (bv j)) (hbv : ∀ j, bv j < 4) (hD : D < 4)
    (hX : ∀ j, j < 7 → X (i + j * 8) = rt_q D bv 0 1 i j) (hX7 : ∀ c, X c = true → c / 8 < 7)
    (hF : rt_F x11 (rt_Pm X (i + 1))) (H : ∀ y, rt_F y (rt_Pm X i) → J (nI (s + rt_s (fun j => (rt_q D bv 0 1 i j).toNat) 7)) x10 y x12 (nI i + (-1))) :
    ∃ m, wL_lawOf_181 post mc ms J x0 x2 x4 (nI D) x6 x7 x8 x10 x12 (nI i) (nI (bv i)) kc ks f0 a1 a2 a3 a4 a5 a6 a7 a8 w bf bd t m (nI s) x11 0 := by
  have h4i := hbv i
  refine pk_loop (σ := Int32) (fun m j y => wL_lawOf_181 post mc ms J x0 x2 x4 (nI D) x6 x7 x8 x10 x12 (nI i) (nI (bv i)) kc ks f0 a1 a2 a3 a4 a5 a6 a7 a8 w bf bd t m (nI (s + rt_s (fun j => (rt_q D bv 0 1 i j).toNat) j)) y (nI j)) (fun j y => rt_F y (rt_Pj X i j)) 7 0 x11 (by omega) (rt_Fc hF (fun c => ?_)) ?_ ?_
  · unfold rt_Pm rt_Pj
    constructor
    · exact fun h => ⟨h.1, Or.inl h.2⟩
    · exact fun h => ⟨h.1, by omega⟩
  · intro m y h
    refine pk_le 7 7 (fun _ => nm_e (H y (rt_Fc h (fun c => ?_)))) (fun z => absurd z (by omega))
    unfold rt_Pm rt_Pj
    constructor
    · exact fun h => ⟨h.1, by omega⟩
    · intro h
      have := hX7 c h.1
      exact ⟨h.1, by omega⟩
  · intro m j y hj h hw
    have h4j := hbv j
    have key : ∀ on, on = rt_q D bv 0 1 i j → wL_lawOf_215 post mc ms J (wL_lawOf_181 post mc ms J x0 x2 x4 (nI D) x6 x7 x8 x10 x12 (nI i) (nI (bv i)) kc ks f0 a1 a2 a3 a4 a5 a6 a7 a8 w bf bd t m) x0 x2 x4 (nI D) x6 x7 x8 (nI (s + rt_s (fun j => (rt_q D bv 0 1 i j).toNat) j)) x10 y x12 (nI i) (nI (bv i)) (nI j) (rt_i on) kc ks f0 a1 a2 a3 a4 a5 a6 a7 a8 w bf bd t := by
      intro on hon
      have es : rt_s (fun j => (rt_q D bv 0 1 i j).toNat) (j + 1) = rt_s (fun j => (rt_q D bv 0 1 i j).toNat) j + on.toNat := by rw [hon]; rfl
      refine rt_215 hi hj h (fun e => ?_) (fun e y' hy => ?_)
      · have tt := hw y (rt_Fc h (fun c => ?_))
        · have t' : wL_lawOf_181 post mc ms J x0 x2 x4 (nI D) x6 x7 x8 x10 x12 (nI i) (nI (bv i)) kc ks f0 a1 a2 a3 a4 a5 a6 a7 a8 w bf bd t m (nI (s + rt_s (fun j => (rt_q D bv 0 1 i j).toNat) (j + 1))) y (nI (j + 1)) := tt
          rw [es, e] at t'
          exact t'
        · unfold rt_Pj
          constructor
          · exact fun h => ⟨h.1, by omega⟩
          · intro h'
            refine ⟨h'.1, ?_⟩
            by_cases ec : c = i + j * 8
            · have hx := h'.1
              rw [ec, hX j hj, ← hon, e] at hx
              exact absurd hx (by decide)
            · omega
      · have tt := hw y' (rt_Fc hy (fun c => ?_))
        · have t' : wL_lawOf_181 post mc ms J x0 x2 x4 (nI D) x6 x7 x8 x10 x12 (nI i) (nI (bv i)) kc ks f0 a1 a2 a3 a4 a5 a6 a7 a8 w bf bd t m (nI (s + rt_s (fun j => (rt_q D bv 0 1 i j).toNat) (j + 1))) y' (nI (j + 1)) := tt
          rw [es, e, ← Nat.add_assoc] at t'
          exact t'
        · unfold rt_Pj
          constructor
          · intro h'
            rcases h' with h' | h'
            · exact ⟨h'.1, by omega⟩
            · refine ⟨?_, by omega⟩
              rw [h', hX j hj, ← hon, e]
          · intro h'
            by_cases ec : c = i + j * 8
            · exact Or.inr ec
            · exact Or.inl ⟨h'.1, by omega⟩
    refine pk_le 7 j (fun z => absurd z (by omega)) (fun _ => ?_)
    rw [rt_a3 j hj, hv j]
    refine pk_eq (j % 4) (bv i) (fun e1 => pk_eq (bv j) D (fun e2 => key true ?_) (fun e2 => key false ?_)) (fun e1 => key false ?_)
    · show true = (decide (bv i = j % 4) && decide (D = bv j))
      rw [decide_eq_true e1.symm, decide_eq_true e2.symm]
      rfl
    · show false = (decide (bv i = j % 4) && decide (D = bv j))
      rw [decide_eq_false (show ¬ D = bv j from fun z => e2 z.symm), Bool.and_false]
    · show false = (decide (bv i = j % 4) && decide (D = bv j))
      rw [decide_eq_false (show ¬ bv i = j % 4 from fun z => e1 z.symm), Bool.false_and]
theorem rt_121 {X : Nat → Bool} (hv : ∀ j, (x0 >>> ((2 * nI j) &&& 31)) &&& 3 = nI (bv j)) (hbv : ∀ j, bv j < 4) (hD : D < 4)
    (hX : ∀ i, i < 7 → ∀ j, j < 7 → X (i + j * 8) = rt_q D bv 0 1 i j) (hX7 : ∀ c, X c = true → c % 8 < 7 ∧ c / 8 < 7)
    (H : ∀ m y, rt_F y (rt_Pm X 0) → wL_lawOf_121 post mc ms x0 x2 x4 (nI D) x6 x7 x8 kc ks f0 a1 a2 a3 a4 a5 a6 a7 a8 w bf bd t (m + 1) (nI (rt_s (fun i => rt_s (fun j => (rt_q D bv 0 1 i j).toNat) 7) 7)) (nI (rt_s (fun i => (decide (i % 4 = bv i)).toNat) 7)) y (nI (rt_s (fun i => (decide (D = bv i)).toNat) 7)) (-1)) :
    ∃ m, wL_lawOf_121 post mc ms x0 x2 x4 (nI D) x6 x7 x8 kc ks f0 a1 a2 a3 a4 a5 a6 a7 a8 w bf bd t m 0 0 (-1) 0 6 := by
  have e6 : nI 7 + (-1) = (6 : Int32) := by decide
  suffices h : wL_lawOf_121 post mc ms x0 x2 x4 (nI D) x6 x7 x8 kc ks f0 a1 a2 a3 a4 a5 a6 a7 a8 w bf bd t (7 + 1) (nI 0) (nI 0) (-1) (nI 0) (nI 7 + (-1)) by
    rw [e6] at h
    exact ⟨8, h⟩
  refine pk_loopD (σ := Nat × Nat × Int32 × Nat) (fun m i s => wL_lawOf_121 post mc ms x0 x2 x4 (nI D) x6 x7 x8 kc ks f0 a1 a2 a3 a4 a5 a6 a7 a8 w bf bd t m (nI s.1) (nI s.2.1) s.2.2.1 (nI s.2.2.2) (nI i + (-1)))
    (fun i s => i ≤ 7 ∧ s.1 + rt_s (fun i => rt_s (fun j => (rt_q D bv 0 1 i j).toNat) 7) i = rt_s (fun i => rt_s (fun j => (rt_q D bv 0 1 i j).toNat) 7) 7 ∧ s.2.1 + rt_s (fun i => (decide (i % 4 = bv i)).toNat) i = rt_s (fun i => (decide (i % 4 = bv i)).toNat) 7 ∧ s.2.2.2 + rt_s (fun i => (decide (D = bv i)).toNat) i = rt_s (fun i => (decide (D = bv i)).toNat) 7 ∧ rt_F s.2.2.1 (rt_Pm X i)) ?_ ?_ 7 (0, 0, -1, 0) ⟨by omega, Nat.zero_add _, Nat.zero_add _, Nat.zero_add _, Or.inl ⟨rfl, fun c hc => ?_⟩⟩
  · intro m s hI
    obtain ⟨s1, s2, s3, s4⟩ := s
    obtain ⟨_, e1, e2, e4, hF⟩ := hI
    have e1' : s1 = rt_s (fun i => rt_s (fun j => (rt_q D bv 0 1 i j).toNat) 7) 7 := e1
    have e2' : s2 = rt_s (fun i => (decide (i % 4 = bv i)).toNat) 7 := e2
    have e4' : s4 = rt_s (fun i => (decide (D = bv i)).toNat) 7 := e4
    have t := H m s3 hF
    rw [← e1', ← e2', ← e4'] at t
    exact t
  · intro m i s hI hw
    obtain ⟨s1, s2, s3, s4⟩ := s
    obtain ⟨hi7, e1, e2, e4, hF⟩ := hI
    have hi : i < 7 := by omega
    have h4i := hbv i
    have e1' : s1 + (rt_s (fun i => rt_s (fun j => (rt_q D bv 0 1 i j).toNat) 7) i + rt_s (fun j => (rt_q D bv 0 1 i j).toNat) 7) = rt_s (fun i => rt_s (fun j => (rt_q D bv 0 1 i j).toNat) 7) 7 := e1
    have e2' : s2 + (rt_s (fun i => (decide (i % 4 = bv i)).toNat) i + (decide (i % 4 = bv i)).toNat) = rt_s (fun i => (decide (i % 4 = bv i)).toNat) 7 := e2
    have e4' : s4 + (rt_s (fun i => (decide (D = bv i)).toNat) i + (decide (D = bv i)).toNat) = rt_s (fun i => (decide (D = bv i)).toNat) 7 := e4
    show wL_lawOf_121 post mc ms x0 x2 x4 (nI D) x6 x7 x8 kc ks f0 a1 a2 a3 a4 a5 a6 a7 a8 w bf bd t (m + 1) (nI s1) (nI s2) s3 (nI s4) (nI (i + 1) + (-1))
    rw [pk_m1 i]
    have fin : ∀ v10 v12, v10 = s2 + (decide (i % 4 = bv i)).toNat → v12 = s4 + (decide (D = bv i)).toNat → ∃ m', wL_lawOf_181 post mc ms (wL_lawOf_121 post mc ms x0 x2 x4 (nI D) x6 x7 x8 kc ks f0 a1 a2 a3 a4 a5 a6 a7 a8 w bf bd t m) x0 x2 x4 (nI D) x6 x7 x8 (nI v10) (nI v12) (nI i) (nI (bv i)) kc ks f0 a1 a2 a3 a4 a5 a6 a7 a8 w bf bd t m' (nI s1) s3 0 := by
      intro v10 v12 h10 h12
      refine rt_181 hi hv hbv hD (fun j hj => hX i hi j hj) (fun c hc => (hX7 c hc).2) hF (fun y hy => hw (s1 + rt_s (fun j => (rt_q D bv 0 1 i j).toNat) 7, v10, y, v12) ⟨by omega, ?_, ?_, ?_, hy⟩)
      · show s1 + rt_s (fun j => (rt_q D bv 0 1 i j).toNat) 7 + _ = _
        omega
      · show v10 + _ = _
        omega
      · show v12 + _ = _
        omega
    have st : ∀ v10, v10 = s2 + (decide (i % 4 = bv i)).toNat → wL_lawOf_158 post mc ms (wL_lawOf_121 post mc ms x0 x2 x4 (nI D) x6 x7 x8 kc ks f0 a1 a2 a3 a4 a5 a6 a7 a8 w bf bd t m) x0 x2 x4 (nI D) x6 x7 x8 (nI s1) s3 (nI s4) (nI i) (nI (bv i)) (nI v10) kc ks f0 a1 a2 a3 a4 a5 a6 a7 a8 w bf bd t := by
      intro v10 h10
      refine pk_eq (bv i) D (fun e => nm_r (nI_1 s4) (fin v10 (s4 + 1) h10 ?_)) (fun e => fin v10 s4 h10 ?_)
      · rw [decide_eq_true e.symm]
        rfl
      · rw [decide_eq_false (show ¬ D = bv i from fun z => e z.symm)]
        rfl
    refine br_f (nI_pos (by omega)) (nm_r (rt_a3 i hi) (nm_r (hv i) (pk_eq (i % 4) (bv i) (fun e => ?_) (fun e => ?_))))
    · rw [nI_1 s2]
      exact st (s2 + 1) (by rw [decide_eq_true e]; rfl)
    · exact st s2 (by rw [decide_eq_false e]; rfl)
  · have h7 := hX7 c hc.1
    have h8 := hc.2
    omega
end
end
section
/-! ===== the law's checks ===== -/
def rt_P (f : Nat) : Int32 := 127 &&& (((1 : Int32) <<< (nI f &&& 31)) ^^^ (-1))
theorem rt_p127 : ∀ g, g < 7 → rt_h 127 g = true := by decide +kernel
theorem rt_pf : ∀ f, f < 7 → ∀ g, g < 7 → rt_h (rt_P f) g = (rt_h 127 g && !decide (g = f)) := by decide +kernel
theorem rt_pa : ∀ f, f < 7 → rt_P f ||| ((1 : Int32) <<< (nI f &&& 31)) = 127 := by decide +kernel
theorem rt_pn : ∀ f, f < 7 → ¬ rt_P f = 127 := by decide +kernel
theorem rt_448 : ∀ c, c < 64 → nI c ||| nI (512 - 8 ^ 2) = nI (c + 448) := by decide +kernel
theorem rt_pe {f g : Nat} (hf : f < 7) (hg : g < 7) (hne : g ≠ f) : rt_h (rt_P f) g = rt_h 127 g := by
  rw [rt_pf f hf g hg, decide_eq_false hne]
  exact Bool.and_true _
section
variable {f0 : Int32} {a1 a2 a3 a4 a5 a6 a7 a8 : Nat → Int32} {w bf : Nat → Int64} {bd t : Nat → Int32}
variable {D : Nat} {bv : Nat → Nat} {post : Int32 → St0 → Prop} {mc ms kc ks : Nat} {x0 x2 x4 x6 x7 x8 : Int32}
theorem rt_matchF {post : Int32 → Prop} {X : Nat → Bool} {y : Int32} (hs : a4 0 = nI 2) (hX : ∀ c, c < 64 → rt_b (w (0 * 11 + 2)) c = X c) (hF : rt_F y (rt_Pm X 0)) (H : post y) : wpX_match post (f0, a1, a2, a3, a4, a5, a6, a7, a8, w, bf, bd, t) 0 0 := by
  refine rt_match (r := 0) (l := 2) (by omega) (by omega) hs hX (fun h0 => ?_) (fun c hc hx h0 => ?_)
  · rw [← rt_Fn hF h0]
    exact H
  · rw [rt_448 c hc, ← rt_Fy hF hc hx h0]
    exact H
theorem rt_match0 {post : Int32 → Prop} (hs : a4 2 = nI 0) (hX : ∀ c, c < 64 → rt_b (w (2 * 11 + 0)) c = decide (c = 0)) (H : post 511) : wpX_match post (f0, a1, a2, a3, a4, a5, a6, a7, a8, w, bf, bd, t) 2 0 := by
  refine rt_match (r := 2) (l := 0) (X := fun c => decide (c = 0)) (by omega) (by omega) hs hX (fun h0 => absurd (h0 0 (by decide)) (by decide)) (fun c hc hx _ => ?_)
  have e : c = 0 := of_decide_eq_true hx
  rw [e, show nI 0 ||| nI (512 - 8 ^ 0) = (511 : Int32) from by decide]
  exact H
theorem rt_486 {f J E U o L R : Nat} (hf : f < 7) (hbv : ∀ i, bv i < 4) (hD : D < 4) (hG : rt_G D bv a1 a2 a3 a4 a5 a6 a7 a8) (hW : ∀ r, r < 3 → rt_W (rt_h 127) (rt_q D bv r) r (2 - r) w)
    (hJ : J = rt_n (rt_T (rt_h 127) (rt_q D bv 0) 2) (8 ^ 2)) (hL : L = rt_n (rt_T (rt_h (rt_P f)) (rt_q D bv 0) 2) (8 ^ 2)) (hR : R = rt_n (rt_T (rt_h (rt_P f)) (rt_q D bv 1) 1) (8 ^ 1))
    (h1 : L + R + U = J + E) (h2 : R + o = E) (H : post 1 ()) :
    wL_lawOf_486 post mc ms 1 (nI J) (nI E) (nI f) (nI U) (nI (bv f)) (nI o) kc ks 127 a1 a2 a3 a4 a5 a6 a7 a8 w bf bd t := by
  have ok := rt_ok hG hbv hD
  have okG := rt_Gu (f := f) hG
  have ok2 := rt_ok okG hbv hD
  obtain ⟨hd, s0, s1, s2, _⟩ := hG
  have hff : rt_h (rt_P f) f = false := by
    rw [rt_pf f hf f hf, decide_eq_true rfl]
    exact Bool.and_false _
  unfold wL_lawOf_486
  refine rt_rem hf (rt_p127 f hf) (rt_26 (f0 := rt_P f) (nn := fun r => 2 - r) ok hf hW (fun g hg hne => (rt_pe hf hg hne).symm) (fun w1 bf1 bd1 t1 hW1 => ?_))
  refine rt_mat (r := 0) (l := 2) (by omega) (by omega) s0 (hW1 0 (by omega) 2 (by omega)) (rt_mat (r := 1) (l := 1) (by omega) (by omega) s1 (hW1 1 (by omega) 1 (by omega)) ?_)
  rw [← hL, ← hR, rt_a3 f hf]
  unfold wpX_effect
  refine rt_rule (r := 0) (by omega) (br_f (by decide) (rt_fok (Nat.mod_lt _ (by decide)) (hbv f) (br_f (by decide) (br_f (rt_pn f hf) (rt_mat (r := 0) (l := 2) (by omega) (by omega) s0 (hW1 0 (by omega) 2 (by omega)) (rt_add (f := f) hf (Nat.mod_lt _ (by decide)) (hbv f) (fun g hg => ?_) hff ?_))))))
  · rw [rt_pe hf (by omega) (by omega)]
    exact rt_p127 g (by omega)
  · rw [rt_pa f hf, ← hL]
    refine rt_73 (nn := fun r => 2 - r) ok2 hf hW1 (fun g hg hne => rt_pe hf hg hne) (fun w2 bf2 bd2 t2 hW2 => ?_)
    refine rt_mat (r := 0) (l := 2) (by omega) (by omega) s0 (hW2 0 (by omega) 2 (by omega)) ?_
    rw [← hJ]
    refine rt_rem hf (rt_p127 f hf) (rt_26 (f0 := rt_P f) (nn := fun r => 2 - r) ok2 hf hW2 (fun g hg hne => (rt_pe hf hg hne).symm) (fun w3 bf3 bd3 t3 hW3 => ?_))
    refine br_f (by decide) (br_f (by decide) (br_t ?_ (br_t ?_ (br_t rfl (rt_usesN hf hff (br_t rfl (rt_dropN (r := 2) (by omega) s2 (br_t rfl (rt_partN (r := 0) (n := 2) (l := 3) (by omega) (by omega) (by omega) s0 (br_t rfl H))))))))))
    · rw [nI_add, nI_add, pk_sub (by omega)]
      congr 1
      omega
    · rw [pk_sub (by omega)]
      congr 1
      omega
theorem rt_443 (hv : ∀ j, (x0 >>> ((2 * nI j) &&& 31)) &&& 3 = nI (bv j)) (hbv : ∀ i, bv i < 4) (hD : D < 4) (hG : rt_G D bv a1 a2 a3 a4 a5 a6 a7 a8) (hW : ∀ r, r < 3 → rt_W (rt_h 127) (rt_q D bv r) r (2 - r) w) (H : post 1 ()) :
    wL_lawOf_443 post mc ms x0 x2 (nI (rt_n (rt_T (rt_h 127) (rt_q D bv 0) 2) (8 ^ 2))) (nI (rt_n (rt_T (rt_h 127) (rt_q D bv 1) 1) (8 ^ 1))) 1 kc ks 127 a1 a2 a3 a4 a5 a6 a7 a8 w bf bd t := by
  obtain ⟨j, hj, ej⟩ := pk_andE x2 (m := 7) 3 (by decide)
  have hf : j % 7 < 7 := Nat.mod_lt _ (by decide)
  have eg : (x2 &&& 7) - (x2 &&& 7) / 7 * 7 = nI (j % 7) := by
    rw [ej]
    exact pk_rem (d := 7) (by omega) (by omega) (by omega)
  have hs : ∀ r, r < 3 → a4 r = nI (2 - r) := fun r hr => (rt_ok hG hbv hD r hr).1
  generalize j % 7 = f at hf eg
  refine And.intro (by decide) (nm_r eg (rt_uses (X := fun r => rt_T (rt_h 127) (rt_q D bv r) (2 - r)) (nn := fun r => 2 - r) hf (rt_p127 f hf) hs (fun r _ => by omega) (fun r hr => hW r hr (2 - r) (by omega)) (nm_r (hv f) ?_)))
  have hL := rt_left (p := rt_h 127) (p' := rt_h (rt_P f)) (q := rt_q D bv 0) (f := f) (rt_pf f hf)
  have hR := rt_rest (p := rt_h 127) (p' := rt_h (rt_P f)) (q := rt_q D bv 1) (f := f) (rt_pf f hf)
  have hO := rt_own (p := rt_h 127) (q := rt_q D bv 1) hf (rt_p127 f hf)
  have hU : rt_s (rt_U (fun r => rt_T (rt_h 127) (rt_q D bv r) (2 - r)) (fun r => 2 - r) f) 3 = rt_n (fun c => rt_T (rt_h 127) (rt_q D bv 0) 2 c && rt_hd 2 c f) (8 ^ 2) + rt_n (fun c => rt_T (rt_h 127) (rt_q D bv 1) 1 c && rt_hd 1 c f) (8 ^ 1) := by
    show 0 + rt_n (fun c => rt_T (rt_h 127) (rt_q D bv 0) 2 c && rt_hd 2 c f) (8 ^ 2) + rt_n (fun c => rt_T (rt_h 127) (rt_q D bv 1) 1 c && rt_hd 1 c f) (8 ^ 1) + rt_n (fun c => rt_T (rt_h 127) (rt_q D bv 2) 0 c && false) 1 = _
    have z : rt_n (fun c => rt_T (rt_h 127) (rt_q D bv 2) 0 c && false) 1 = 0 := by
      rw [rt_n_ext (Y := fun _ => false) 1 (fun c _ => Bool.and_false _)]
      rfl
    rw [z, Nat.zero_add, Nat.add_zero]
  have hq : rt_q D bv 1 0 0 f = decide (f % 4 = bv f) := rfl
  have h4 := hbv f
  rw [hU, rt_a3 f hf]
  refine pk_eq (f % 4) (bv f) (fun e => rt_486 (o := 1) hf hbv hD hG hW rfl rfl rfl (by omega) ?_ H) (fun e => rt_486 (o := 0) hf hbv hD hG hW rfl rfl rfl (by omega) ?_ H)
  · rw [hO, hq, decide_eq_true e] at hR
    rw [← hR]
    exact Nat.add_comm _ _
  · rw [hO, hq, decide_eq_false e] at hR
    rw [← hR]
    exact Nat.add_comm _ _
theorem rt_406 {z0 z1 z2 : Int32} (hz : z2 = ((z1 ||| z0) ||| 4)) (hv : ∀ j, (x0 >>> ((2 * nI j) &&& 31)) &&& 3 = nI (bv j)) (hbv : ∀ i, bv i < 4) (hD : D < 4) (hG : rt_G D bv a1 a2 a3 a4 a5 a6 a7 a8) (hW : ∀ r, r < 3 → rt_W (rt_h 127) (rt_q D bv r) r (2 - r) w) (H : post 1 ()) :
    wL_lawOf_406 post mc ms x0 x2 (nI (rt_n (rt_T (rt_h 127) (rt_q D bv 0) 2) (8 ^ 2))) (nI (rt_n (rt_T (rt_h 127) (rt_q D bv 1) 1) (8 ^ 1))) z0 z1 z2 kc ks 127 a1 a2 a3 a4 a5 a6 a7 a8 w bf bd t := by
  refine br_t hz (rt_addF (a := 0) (b := 0) (by omega) (by omega) rt_p127 (br_t rfl ?_))
  unfold wpX_effect
  exact (rt_rule (r := 0) (by omega) (br_f (by decide) (rt_fok (a := 0) (b := 0) (by omega) (by omega) (br_f (by decide) (br_t rfl (br_t rfl (rt_443 hv hbv hD hG hW H)))))))
theorem rt_fin {m : Nat} {y : Int32} (hv : ∀ j, (x0 >>> ((2 * nI j) &&& 31)) &&& 3 = nI (bv j)) (hbv : ∀ i, bv i < 4) (hD : D < 4) (hG : rt_G D bv a1 a2 a3 a4 a5 a6 a7 a8) (hW : ∀ r, r < 3 → rt_W (rt_h 127) (rt_q D bv r) r (2 - r) w) (hF : rt_F y (rt_Pm (rt_T (rt_h 127) (rt_q D bv 0) 2) 0)) (H : post 1 ()) :
    wL_lawOf_121 post mc ms x0 x2 1 (nI D) 1 2 1 kc ks 127 a1 a2 a3 a4 a5 a6 a7 a8 w bf bd t (m + 1) (nI (rt_s (fun i => rt_s (fun j => (rt_q D bv 0 1 i j).toNat) 7) 7)) (nI (rt_s (fun i => (decide (i % 4 = bv i)).toNat) 7)) y (nI (rt_s (fun i => (decide (D = bv i)).toNat) 7)) (-1) := by
  have eJ := rt_joins (p := rt_h 127) (q := rt_q D bv 0) rt_p127 (fun _ => rfl)
  have eE := rt_ones (p := rt_h 127) (q := rt_q D bv 1) rt_p127
  have eE' : rt_s (fun i => (decide (i % 4 = bv i)).toNat) 7 = rt_n (rt_T (rt_h 127) (rt_q D bv 1) 1) (8 ^ 1) := eE.symm
  have e7 : rt_n (rt_T (rt_h 127) (rt_q D bv 0) 1) (8 ^ 1) = 7 := rt_ones (p := rt_h 127) (q := rt_q D bv 0) rt_p127
  have e1 : rt_n (fun c => decide (c = 0)) (8 ^ 0) = 1 := by decide
  rw [← eJ, eE']
  have bJ := rt_nle (rt_T (rt_h 127) (rt_q D bv 0) 2) (8 ^ 2)
  have bE := rt_nle (rt_T (rt_h 127) (rt_q D bv 1) 1) (8 ^ 1)
  obtain ⟨hd, s0, s1, s2, h5, h6, h7, h8, k5, k6, k7, _⟩ := id hG
  have w0 := hW 0 (by omega) 2 (by omega)
  have w01 := hW 0 (by omega) 1 (by omega)
  have w1 := hW 1 (by omega) 1 (by omega)
  have w2 : ∀ c, c < 64 → rt_b (w (2 * 11 + 0)) c = decide (c = 0) := hW 2 (by omega) 0 (by omega)
  refine br_t (by decide) (br_f (by decide) (br_t rfl (br_t rfl (br_t rfl (rt_mat (r := 0) (l := 2) (by omega) (by omega) s0 w0 (br_t rfl (rt_matchF s0 w0 hF (br_t rfl (rt_mat (r := 1) (l := 1) (by omega) (by omega) s1 w1 (br_t rfl (rt_part (r := 0) (l := 1) (n := 2) (by omega) (by omega) (by omega) (by omega) s0 w01 (br_t ?_ (rt_fitting (D := D) (bv := bv) s0 rt_p127 (fun g hg => (hd.1 g hg).trans k5.symm) k6 k7 hD hbv hd.2.2 (br_t rfl (rt_mat (r := 2) (l := 0) (by omega) (by omega) s2 w2 (br_t ?_ (rt_match0 s2 w2 (br_t rfl (rt_ready (by omega) (by omega) (by omega) s0 s1 s2 w0 w1 w2 ?_)))))))))))))))))))
  · rw [e7]
    rfl
  · rw [e1]
    rfl
  · rw [e1]
    refine pk_le (rt_n (rt_T (rt_h 127) (rt_q D bv 0) 2) (8 ^ 2)) 0 (fun z => pk_le (rt_n (rt_T (rt_h 127) (rt_q D bv 1) 1) (8 ^ 1)) 0 (fun z' => rt_406 ?_ hv hbv hD hG hW H) (fun z' => rt_406 ?_ hv hbv hD hG hW H)) (fun z => pk_le (rt_n (rt_T (rt_h 127) (rt_q D bv 1) 1) (8 ^ 1)) 0 (fun z' => rt_406 ?_ hv hbv hD hG hW H) (fun z' => rt_406 ?_ hv hbv hD hG hW H))
    · unfold rt_rd
      rw [if_pos (by omega), if_pos (by omega), if_neg (by omega)]
      decide
    · unfold rt_rd
      rw [if_pos (by omega), if_neg (by omega), if_neg (by omega)]
      decide
    · unfold rt_rd
      rw [if_neg (by omega), if_pos (by omega), if_neg (by omega)]
      decide
    · unfold rt_rd
      rw [if_neg (by omega), if_neg (by omega), if_neg (by omega)]
      decide
end
end
section
/-! ===== init, the facts, the conditions, the law ===== -/
theorem rt_init {post : St2 → Prop} (H : ∀ s : Nat → Int64, (∀ r, r < 3 → s (r * 11) = 1) → post (0, (fun _ => 0), (fun _ => 0), (fun _ => 0), (fun _ => 0), (fun _ => 0), (fun _ => 0), (fun _ => 0), (fun _ => 0), s, (fun _ => 0), (fun _ => 0), (fun _ => 0))) : wpX_init post 12 132 0 := by
  unfold wpX_init
  refine ⟨by decide, by decide, by decide, by decide, by decide, by decide, by decide, by decide, by decide, by decide, by decide, by decide, by decide, by decide, by decide, by decide, by decide, by decide, by decide, by decide, by decide, by decide, by decide, by decide, ?_⟩
  refine pk_loop (σ := Nat → Int64) (fun m r s => wX_init_99 post 12 132 12 132 0 m (nI r) (fun _ => 0) (fun _ => 0) (fun _ => 0) (fun _ => 0) (fun _ => 0) (fun _ => 0) (fun _ => 0) (fun _ => 0) s (fun _ => 0) (fun _ => 0) (fun _ => 0)) (fun r s => ∀ r', r' < r → s (r' * 11) = 1) 3 0 (fun _ => 0) (by omega) (fun r h => absurd h (by omega)) ?_ ?_
  · intro m s h
    exact pk_le 3 3 (fun _ => H s h) (fun z => absurd z (by omega))
  · intro m r s hr h hw
    refine pk_le 3 r (fun z => absurd z (by omega)) (fun _ => ?_)
    rw [rt_r11 r hr, nI_clamp (show r * 11 < 2 ^ 31 by omega)]
    refine ⟨pk_in (r * 11) 33 (by omega), nm_e (nm_r (nI_1 r) (hw _ (fun r' h' => ?_)))⟩
    by_cases e : r' = r
    · rw [e]
      exact pk_uLs
    · rw [pk_uLn (by omega)]
      exact h r' (by omega)
theorem rt_W0 {p : Nat → Bool} {q : Nat → Nat → Nat → Bool} {r : Nat} {w : Nat → Int64} (h : ∀ c, c < 64 → rt_b (w (r * 11)) c = decide (c = 0)) : rt_W p q r 0 w := fun j hj c hc => by
  have e : j = 0 := by omega
  rw [e]
  exact h c hc
theorem rt_c2 : ∀ D, D < 4 → 20 + 32 * nI D = nI (20 + 32 * D) ∧ nI (20 + 32 * D) &&& 3 = 0 ∧ (nI (20 + 32 * D) >>> ((2 : Int32) &&& 31)) &&& 7 = nI 5 ∧ (nI (20 + 32 * D) >>> ((5 : Int32) &&& 31)) &&& 7 = nI D := by decide +kernel
theorem rt_pi : ∀ i, i < 7 → (∀ g, g < i → rt_h (nI (2 ^ i - 1)) g = true) ∧ rt_h (nI (2 ^ i - 1)) i = false ∧ nI (2 ^ i - 1) ||| ((1 : Int32) <<< (nI i &&& 31)) = nI (2 ^ (i + 1) - 1) := by decide +kernel
section
variable {f0 : Int32} {a1 a2 a3 a4 a5 a6 a7 a8 : Nat → Int32} {w bf : Nat → Int64} {bd t : Nat → Int32}
variable {D : Nat} {bv : Nat → Nat} {post : Int32 → St0 → Prop} {mc ms kc ks : Nat} {x0 x1 x2 : Int32}
theorem rt_cs {m : Nat} (hv : ∀ j, (x0 >>> ((2 * nI j) &&& 31)) &&& 3 = nI (bv j)) (hbv : ∀ i, bv i < 4) (hD : D < 4) (hx1 : x1 &&& 3 = nI D) (hd : rt_Dt bv a1 a2 a3) (h4 : ∀ r, r < 3 → a4 r = nI 0) (hW : ∀ r, r < 3 → rt_W (rt_h 127) (rt_q D bv r) r 0 w) (H : post 1 ()) :
    wL_lawOf_14 post mc ms x0 x1 x2 kc ks (m + 1) 1 (nI 7) 127 a1 a2 a3 a4 a5 a6 a7 a8 w bf bd t := by
  obtain ⟨c1, c2, c3, c4⟩ := rt_c2 D hD
  refine pk_le 7 7 (fun _ => nm_r hx1 ?_) (fun z => absurd z (by omega))
  refine rt_cond (r := 0) (n := 0) (k := 0) (v := 176) (A := 4) (B := 5) (q := rt_q D bv 0) (by omega) (by omega) rfl (h4 0 (by omega)) (by omega) (by decide) (by decide) (by decide) (by omega) (by omega) ⟨rfl, by omega, fun l hl => ?_⟩ (fun w1 bf1 bd1 t1 f1 W1 => ?_)
  · have e : l = 0 := by omega
    rw [e]
    exact rt_lv00 hd hbv rfl rfl rfl rfl
  rw [c1]
  refine rt_cond (r := 0) (n := 1) (k := 1) (v := 20 + 32 * D) (A := 5) (B := D) (q := rt_q D bv 0) (by omega) (by omega) rfl rfl (by omega) c2 c3 c4 (by omega) (by omega) ⟨rfl, by omega, fun l hl => ?_⟩ (fun w2 bf2 bd2 t2 f2 W2 => ?_)
  · by_cases e : l = 0
    · rw [e]
      exact rt_lv00 hd hbv rfl rfl rfl rfl
    · have e1 : l = 1 := by omega
      rw [e1]
      exact rt_lv01 hd hbv hD rfl rfl rfl rfl rfl rfl rfl
  refine rt_cond (r := 1) (n := 0) (k := 3) (v := 216) (A := 6) (B := 6) (q := rt_q D bv 1) (by omega) (by omega) rfl (h4 1 (by omega)) (by omega) (by decide) (by decide) (by decide) (by omega) (by omega) ⟨rfl, by omega, fun l hl => ?_⟩ (fun w3 bf3 bd3 t3 f3 W3 => ?_)
  · have e : l = 0 := by omega
    rw [e]
    exact rt_lv10 hd hbv rfl rfl rfl rfl
  have hG : rt_G D bv a1 a2 a3 (upd (upd (upd a4 0 (nI 1)) 0 (nI 2)) 1 (nI 1)) (upd (upd (upd a5 0 0) 1 0) 3 0) (upd (upd (upd a6 0 (nI 4)) 1 (nI 5)) 3 (nI 6)) (upd (upd (upd a7 0 (nI 5)) 1 (nI D)) 3 (nI 6)) (upd (upd (upd a8 0 0) 1 0) 3 0) :=
    ⟨hd, rfl, rfl, h4 2 (by omega), rfl, rfl, rfl, rfl, rfl, rfl, rfl, rfl, rfl, rfl, rfl, rfl⟩
  have hW3 : ∀ r, r < 3 → rt_W (rt_h 127) (rt_q D bv r) r (2 - r) w3 := by
    intro r hr
    match r, hr with
    | 0, _ => exact rt_Wf (r := 1) (by omega) (by omega) f3 W2
    | 1, _ => exact W3
    | 2, _ => exact rt_Wf (r := 1) (by omega) (by omega) f3 (rt_Wf (r := 0) (by omega) (by omega) f2 (rt_Wf (r := 0) (by omega) (by omega) f1 (hW 2 (by omega))))
  exact rt_121 (X := rt_T (rt_h 127) (rt_q D bv 0) 2) hv hbv hD (fun i hi j hj => by rw [rt_T2 hi hj, rt_p127 i hi, rt_p127 j hj]; rfl) (fun c hc => rt_T2b hc) (fun m y hF => rt_fin hv hbv hD hG hW3 hF H)
theorem rt_14 (hv : ∀ j, (x0 >>> ((2 * nI j) &&& 31)) &&& 3 = nI (bv j)) (hbv : ∀ i, bv i < 4) (hD : D < 4) (hx1 : x1 &&& 3 = nI D) (h1 : ∀ x, x < 7 → a1 x = 0) (h4 : ∀ r, r < 3 → a4 r = nI 0) (hw0 : ∀ r, r < 3 → ∀ c, c < 64 → rt_b (w (r * 11)) c = decide (c = 0)) (H : post 1 ()) :
    ∃ m, wL_lawOf_14 post mc ms x0 x1 x2 kc ks m 1 0 0 a1 a2 a3 a4 a5 a6 a7 a8 w bf bd t := by
  refine pk_loop (σ := (Nat → Int32) × (Nat → Int32) × (Nat → Int32) × (Nat → Int64) × (Nat → Int64) × (Nat → Int32) × (Nat → Int32)) (fun m i s => wL_lawOf_14 post mc ms x0 x1 x2 kc ks m 1 (nI i) (nI (2 ^ i - 1)) s.1 s.2.1 s.2.2.1 a4 a5 a6 a7 a8 s.2.2.2.1 s.2.2.2.2.1 s.2.2.2.2.2.1 s.2.2.2.2.2.2)
    (fun i s => (∀ x, x < 7 → s.1 x = 0) ∧ (∀ x, x < i → s.2.1 x = nI (x % 4)) ∧ (∀ x, x < i → s.2.2.1 x = nI (bv x)) ∧ ∀ r, r < 3 → ∀ c, c < 64 → rt_b (s.2.2.2.1 (r * 11)) c = decide (c = 0)) 7 0 (a1, a2, a3, w, bf, bd, t) (by omega) ⟨h1, fun x hx => absurd hx (by omega), fun x hx => absurd hx (by omega), hw0⟩ ?_ ?_
  · intro m s h
    have e : nI (2 ^ 7 - 1) = 127 := by decide
    show wL_lawOf_14 post mc ms x0 x1 x2 kc ks (m + 1) 1 (nI 7) (nI (2 ^ 7 - 1)) s.1 s.2.1 s.2.2.1 a4 a5 a6 a7 a8 s.2.2.2.1 s.2.2.2.2.1 s.2.2.2.2.2.1 s.2.2.2.2.2.2
    rw [e]
    exact rt_cs hv hbv hD hx1 ⟨h.1, h.2.1, h.2.2.1⟩ h4 (fun r hr => rt_W0 (h.2.2.2 r hr)) H
  · intro m i s hi h hw
    obtain ⟨p1, p2, p3⟩ := rt_pi i hi
    refine pk_le 7 i (fun z => absurd z (by omega)) (fun _ => ?_)
    rw [rt_a3 i hi, hv i]
    refine rt_add hi (Nat.mod_lt _ (by decide)) (hbv i) p1 p2 ?_
    rw [p3]
    refine rt_73 (q := rt_q D bv) (nn := fun _ => 0) (p0 := rt_h (nI (2 ^ (i + 1) - 1))) (fun r hr => ⟨h4 r hr, by omega, fun l hl => absurd hl (by omega)⟩) hi (fun r hr => rt_W0 (h.2.2.2 r hr)) (fun _ _ _ => rfl) (fun w' bf' bd' t' hW' => ?_)
    refine br_f (by decide) (br_t rfl (nm_r (nI_1 i) (hw (upd s.1 i 0, upd s.2.1 i (nI (i % 4)), upd s.2.2.1 i (nI (bv i)), w', bf', bd', t') ⟨?_, ?_, ?_, ?_⟩)))
    · exact rt_us (F := fun _ => 0) h.1
    · exact rt_fill (f := fun x => nI (x % 4)) rfl h.2.1 rfl
    · exact rt_fill (f := fun x => nI (bv x)) rfl h.2.2.1 rfl
    · intro r hr c hc
      exact hW' r hr 0 (by omega) c hc
end
theorem rt_lawOf (x0 x1 x2 : Int32) : wpL_lawOf (fun r _ => r = 1) 112 1792 () x0 x1 x2 := by
  refine And.intro (by decide) (And.intro (by decide) ⟨12, 132, by decide, by decide, rt_init (fun s hs => ?_)⟩)
  refine rt_14 (D := x1.toBitVec.toNat % 2 ^ 2) (bv := fun j => (x0 >>> ((2 * nI j) &&& 31)).toBitVec.toNat % 2 ^ 2) (fun j => pk_and _ 2 (by decide)) (fun i => Nat.mod_lt _ (by decide)) (Nat.mod_lt _ (by decide)) (pk_and _ 2 (by decide)) (fun _ _ => rfl) (fun _ _ => rfl) (fun r hr c hc => ?_) rfl
  rw [hs r hr]
  exact rt_b1 c hc
theorem rt_cell3 {post : Int32 → Prop} {L : Nat} {xs : Nat → Int32} {i : Nat} (hL : L ≤ 3) (hi : i < 3) (H : ∀ x, post x) : wpL_cellAt post L xs () (nI i) :=
  pk_le L i (fun _ => H 0) (fun z => ⟨pk_in i L z, H _⟩)
theorem i_vc (xs : Nat → Int32) (L : Nat) (hL : L ≤ 3) : wpL_law (fun r => r = 1) L xs := by
  unfold wpL_law
  exact rt_cell3 (i := 0) hL (by omega) (fun x0 => rt_cell3 (i := 1) hL (by omega) (fun x1 => rt_cell3 (i := 2) hL (by omega) (fun x2 => ⟨112, 1792, by decide, by decide, rt_lawOf x0 x1 x2⟩)))
end
