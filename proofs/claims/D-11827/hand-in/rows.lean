section
/-! pure rows: the order, the pick, the passes over the names -/
def wt_id (s : Nat → Int32) : Prop := ∀ i, i < 16 → s i = nI i
def wt_pc (x y k : Int32) : Int32 := if x ≤ 0 then k else y
def wt_us (m : Int32) (i : Nat) (y : Int32) : Int32 := if (m &&& y) = 0 then y else y ||| ((1 : Int32) <<< (nI i &&& 31))
def wt_up (nm : Nat → Int32) (x : Int32) : Nat → Int32
  | 0 => x
  | i + 1 => wt_us (nm i) i (wt_up nm x i)
def wt_ds (m : Int32) (i : Nat) (y : Int32) : Int32 := if ((y >>> (nI i &&& 31)) &&& 1) = 1 then y ||| m else y
def wt_dn (nm : Nat → Int32) (x : Int32) : Nat → Int32
  | 0 => x
  | j + 1 => wt_ds (nm (15 - j)) (15 - j) (wt_dn nm x j)
def wt_cn (x : Int32) : Nat → Int32
  | 0 => -1
  | i + 1 => wt_cn x i + ((x >>> (nI i &&& 31)) &&& 1)
def wt_n2 (i : Nat) : Int32 := if i = 5 then 6 else if i = 9 then 34 else 0
theorem wt_n2z {i : Nat} (h5 : i ≠ 5) (h9 : i ≠ 9) : wt_n2 i = 0 := by
  unfold wt_n2
  rw [if_neg h5, if_neg h9]
theorem wt_pl : ∀ i, i < 16 → (nI (2 ^ i - 1) ||| ((1 : Int32) <<< (nI i &&& 31))) = nI (2 ^ (i + 1) - 1) := by decide +kernel
theorem wt_b0 : ∀ i, i < 16 → ((nI (2 ^ i - 1) >>> (nI i &&& 31)) &&& 1) = 0 := by decide +kernel
theorem wt_b1 : ∀ i, i < 16 → ∀ c, c < i → ¬ ((nI (2 ^ i - 1) >>> (nI c &&& 31)) &&& 1) = 0 := by decide +kernel
theorem wt_v1 : wt_up wt_n2 2 16 = 546 := by decide +kernel
theorem wt_v5 : wt_up wt_n2 32 16 = 544 := by decide +kernel
theorem wt_v6 : wt_up wt_n2 6 16 = 550 := by decide +kernel
theorem wt_v34 : wt_up wt_n2 34 16 = 546 := by decide +kernel
theorem wt_v3 : wt_up wt_n2 3 16 = 547 := by decide +kernel
theorem wt_v9 : wt_dn wt_n2 512 16 = 550 := by decide +kernel
theorem wt_c1 : wt_cn 546 16 = 2 := by decide +kernel
theorem wt_c5 : wt_cn 544 16 = 1 := by decide +kernel
theorem wt_fill {f s : Nat → Int32} {i k : Nat} {x : Int32} (hk : k = i) (h : ∀ j, j < i → s j = f j) (hx : x = f i) : ∀ j, j < i + 1 → upd s k x j = f j := by
  intro j hj
  rw [hk]
  by_cases e : j = i
  · rw [e, pk_us, hx]
  · rw [pk_un e]
    exact h j (by omega)
theorem wt_ue {a : Nat → Int32} {i : Nat} {v : Int32} (h : v = a i) : upd a i v = a := by
  funext j
  by_cases e : j = i
  · rw [e, pk_us, h]
  · rw [pk_un e]
theorem wt_ab {a b c : Int32} (h : a + b = a + c) : b = c := by grind
/-! small methods -/
theorem wt_off {P : Int32 → Prop} (c : Nat) (hc : c < 16) (h : P 0) : wpX_off P () (nI c) :=
  br_f (nI_pos (by omega)) (pk_lt c 16 (fun _ => h) (fun z => absurd z (by omega)))
theorem wt_pck {P : Int32 → Prop} {a b k : Int32} (h : P (wt_pc a (a + b) k)) : wpL_picked P () a b k := by
  unfold wt_pc at h
  refine br_c (fun z => ?_) (fun z => ?_)
  · rw [if_pos z] at h
    exact h
  · rw [if_neg z] at h
    exact h
theorem wt_cell {P : Int32 → Prop} {L : Nat} {xs : Nat → Int32} (j : Nat) (hj : j < 6) (hL : L ≤ 6) (h : ∀ x, P x) : wpL_cellAt P L xs () (nI j) :=
  pk_le L j (fun _ => h _) (fun z => ⟨pk_in j L z, h _⟩)
section
variable {ft fr fc : Int32} {a1 a2 a3 a4 a5 a6 a7 a8 a9 a10 a11 a12 a13 : Nat → Int32}
theorem wt_init {P : St2 → Prop} {mc ms : Nat} (hm : 13 ≤ mc) (hs : 387 ≤ ms) (h : ∀ s, wt_id s → P (ft, fr, fc, (fun _ => 0), (fun _ => 0), (fun _ => 0), (fun _ => 0), (fun _ => 0), s, (fun _ => 0), (fun _ => 0), (fun _ => 0), (fun _ => 0), (fun _ => 0), (fun _ => 0), (fun _ => 0))) : wpX_init P mc ms (ft, fr, fc) := by
  unfold wpX_init
  dsimp only
  refine ⟨by omega, by omega, by omega, by omega, by omega, by omega, by omega, by omega, by omega, by omega, by omega, by omega, by omega, by omega, by omega, by omega, by omega, by omega, by omega, by omega, by omega, by omega, by omega, by omega, by omega, by omega, ?_⟩
  exact pk_loop (fun n i s => wX_init_111 P mc ms 13 387 ft fr fc n (nI i) (fun _ => 0) (fun _ => 0) (fun _ => 0) (fun _ => 0) (fun _ => 0) s (fun _ => 0) (fun _ => 0) (fun _ => 0) (fun _ => 0) (fun _ => 0) (fun _ => 0) (fun _ => 0)) (fun i s => ∀ j, j < i → s j = nI j) 16 0 (fun _ => 0) (by omega) (fun j hj => absurd hj (by omega))
    (fun n s hI => pk_le 16 16 (fun _ => h s hI) (fun z => absurd z (by omega)))
    (fun n i s hi hI hw => pk_le 16 i (fun z => absurd z (by omega)) (fun _ => ⟨pk_in i 16 hi, nm_e (nm_r (nI_1 i) (hw _ (wt_fill (nI_clamp (by omega)) hI rfl)))⟩))
theorem wt_val {P : Int32 → Prop} (c : Nat) (hc : c < 16) {v : Int32} (hv : a5 c = v) (h : P v) : wpX_value P (ft, fr, fc, a1, a2, a3, a4, a5, a6, a7, a8, a9, a10, a11, a12, a13) (nI c) := by
  unfold wpX_value
  dsimp only
  refine wt_off c hc (br_t rfl ⟨pk_in c 16 hc, ?_⟩)
  rw [nI_clamp (show c < 2 ^ 31 by omega), hv]
  exact h
theorem wt_isf {P : Int32 → Prop} (c : Nat) (hc : c < 16) (hv : ¬ a1 c ≤ 0) (h : P 1) : wpX_isFormula P (ft, fr, fc, a1, a2, a3, a4, a5, a6, a7, a8, a9, a10, a11, a12, a13) (nI c) := by
  unfold wpX_isFormula
  dsimp only
  refine wt_off c hc (br_t rfl ⟨pk_in c 16 hc, ?_⟩)
  rw [nI_clamp (show c < 2 ^ 31 by omega)]
  exact br_f hv h
theorem wt_ent {P : Int32 → Prop} (i j r c : Nat) (hr : r ≤ 4) (hc : c ≤ 4) (hi : i < r) (hj : j < c) {v : Int32} (hv : a11 (i * 4 + j) = v) (h : P v) : wpX_entry P (ft, nI r, nI c, a1, a2, a3, a4, a5, a6, a7, a8, a9, a10, a11, a12, a13) (nI i) (nI j) := by
  have e : nI i * 4 + nI j = nI (i * 4 + j) := by rw [show (4 : Int32) = nI 4 from rfl, pk_mul, nI_add]
  refine br_f (nI_pos (by omega)) (pk_le r i (fun z => absurd z (by omega)) (fun _ => br_f (nI_pos (by omega)) (pk_lt j c (fun _ => ?_) (fun z => absurd z (by omega)))))
  rw [e, nI_clamp (show i * 4 + j < 2 ^ 31 by omega), hv]
  exact ⟨pk_in (i * 4 + j) 16 (by omega), h⟩
theorem wt_ent0 {P : Int32 → Prop} (i j r c : Nat) (hr : r ≤ 4) (hc : c ≤ 4) (hi : i ≤ 4) (hj : j ≤ 4) (hn : r ≤ i ∨ c ≤ j) (h : P 0) : wpX_entry P (ft, nI r, nI c, a1, a2, a3, a4, a5, a6, a7, a8, a9, a10, a11, a12, a13) (nI i) (nI j) :=
  br_f (nI_pos (by omega)) (pk_le r i (fun _ => h) (fun y => br_f (nI_pos (by omega)) (pk_lt j c (fun z => absurd z (by omega)) (fun _ => h))))
theorem wt_inp {post : Int32 → St2 → Prop} {l n : Nat} {x w : Int32} (hl : l < 2) (hn : n < 4) (h10 : a10 l = nI n) (h : post (nI (n + 1)) (ft, fr, fc, a1, a2, a3, a4, a5, a6, a7, a8, upd a9 (l * 4 + n) x, upd a10 l (nI (n + 1)), a11, a12, a13)) : wX_input_9 post x (nI l) ft fr fc a1 a2 a3 a4 a5 a6 a7 a8 a9 a10 a11 a12 a13 := by
  have e : nI l * 4 + nI n = nI (l * 4 + n) := by rw [show (4 : Int32) = nI 4 from rfl, pk_mul, nI_add]
  unfold wX_input_9
  rw [nI_clamp (show l < 2 ^ 31 by omega)]
  refine ⟨pk_in l 2 hl, nm_r h10 (pk_lt n 4 (fun _ => ?_) (fun z => absurd z (by omega)))⟩
  rw [e, nI_clamp (show l * 4 + n < 2 ^ 31 by omega), nI_1]
  exact ⟨pk_in (l * 4 + n) 8 (by omega), nm_e ⟨pk_in l 2 hl, nm_e h⟩⟩
theorem wt_in1 {post : Int32 → St2 → Prop} {n : Nat} {x : Int32} (hn : n < 4) (h10 : a10 0 = nI n) (h : post (nI (n + 1)) (ft, fr, fc, a1, a2, a3, a4, a5, a6, a7, a8, upd a9 n x, upd a10 0 (nI (n + 1)), a11, a12, a13)) : wpX_input post (ft, fr, fc, a1, a2, a3, a4, a5, a6, a7, a8, a9, a10, a11, a12, a13) 1 x :=
  br_f (by decide) (wt_inp (w := x) (l := 0) (n := n) (by omega) hn h10 (by rw [show 0 * 4 + n = n by omega]; exact h))
theorem wt_in0 {post : Int32 → St2 → Prop} {n : Nat} {x : Int32} (hn : n < 4) (h10 : a10 1 = nI n) (h : post (nI (n + 1)) (ft, fr, fc, a1, a2, a3, a4, a5, a6, a7, a8, upd a9 (4 + n) x, upd a10 1 (nI (n + 1)), a11, a12, a13)) : wpX_input post (ft, fr, fc, a1, a2, a3, a4, a5, a6, a7, a8, a9, a10, a11, a12, a13) 0 x :=
  br_t rfl (wt_inp (w := x) (l := 1) (n := n) (by omega) hn h10 h)
theorem wt_tk {post : Int32 → St2 → Prop} {t : Nat} {q x : Int32} (ht : t < 8) (h : post (nI (t + 1)) (nI (t + 1), fr, fc, a1, a2, a3, a4, a5, a6, upd a7 t q, upd a8 t x, a9, a10, a11, a12, a13)) : wX_token_25 post q x (nI t) fr fc a1 a2 a3 a4 a5 a6 a7 a8 a9 a10 a11 a12 a13 := by
  unfold wX_token_25
  rw [nI_clamp (show t < 2 ^ 31 by omega)]
  exact pk_lt t 8 (fun _ => ⟨pk_in t 8 ht, nm_e ⟨pk_in t 8 ht, nm_e (nm_r (nI_1 t) h)⟩⟩) (fun z => absurd z (by omega))
theorem wt_tc {post : Int32 → St2 → Prop} {t g : Nat} (ht : t < 8) (hg : g < 16) (h : post (nI (t + 1)) (nI (t + 1), fr, fc, a1, a2, a3, a4, a5, a6, upd a7 t 1, upd a8 t (nI g), a9, a10, a11, a12, a13)) : wpX_token post (nI t, fr, fc, a1, a2, a3, a4, a5, a6, a7, a8, a9, a10, a11, a12, a13) 1 (nI g) :=
  br_f (by decide) (br_f (by decide) (br_t rfl (wt_off g hg (br_t rfl (wt_tk ht h)))))
theorem wt_to {post : Int32 → St2 → Prop} {t : Nat} {q x : Int32} (ht : t < 8) (h0 : ¬ q < 0) (h7 : ¬ 7 < q) (h1 : ¬ q = 1) (h : post (nI (t + 1)) (nI (t + 1), fr, fc, a1, a2, a3, a4, a5, a6, upd a7 t q, upd a8 t x, a9, a10, a11, a12, a13)) : wpX_token post (nI t, fr, fc, a1, a2, a3, a4, a5, a6, a7, a8, a9, a10, a11, a12, a13) q x :=
  br_f h0 (br_f h7 (br_f h1 (wt_tk ht h)))
/-! the passes -/
theorem wt_above {P : Int32 → Prop} {nm : Nat → Int32} {x y : Int32} (h6 : wt_id a6) (h4 : ∀ i, i < 16 → a4 i = nm i) (he : wt_up nm x 16 = y) (h : P y) : wpX_above P (ft, fr, fc, a1, a2, a3, a4, a5, a6, a7, a8, a9, a10, a11, a12, a13) x := by
  refine pk_loop (σ := Unit) (fun n i _ => wX_above_4 P ft fr fc a1 a2 a3 a4 a5 a6 a7 a8 a9 a10 a11 a12 a13 n (wt_up nm x i) (nI i)) (fun _ _ => True) 16 0 () (by omega) trivial ?_ ?_
  · intro n _ _
    exact pk_le 16 16 (fun _ => by rw [he]; exact h) (fun z => absurd z (by omega))
  · intro n i _ hi _ hw
    have t : wX_above_4 P ft fr fc a1 a2 a3 a4 a5 a6 a7 a8 a9 a10 a11 a12 a13 n (wt_up nm x (i + 1)) (nI (i + 1)) := hw () trivial
    have es : wt_up nm x (i + 1) = wt_us (nm i) i (wt_up nm x i) := rfl
    unfold wt_us at es
    refine pk_le 16 i (fun z => absurd z (by omega)) (fun _ => ⟨pk_in i 16 hi, nm_r (show a6 (nI i).toNatClampNeg = nI i by rw [nI_clamp (by omega)]; exact h6 i hi) ⟨pk_in i 16 hi, ?_⟩⟩)
    rw [nI_clamp (show i < 2 ^ 31 by omega), h4 i hi]
    refine br_c (fun z => nm_r (nI_1 i) ?_) (fun z => nm_e (nm_r (nI_1 i) ?_))
    · rw [if_pos z] at es
      rw [es] at t
      exact t
    · rw [if_neg z] at es
      rw [es] at t
      exact t
theorem wt_below {P : Int32 → Prop} {nm : Nat → Int32} {x y p : Int32} (hx : (1 : Int32) <<< (p &&& 31) = x) (h6 : wt_id a6) (h4 : ∀ i, i < 16 → a4 i = nm i) (he : wt_dn nm x 16 = y) (h : P y) : wpX_below P (ft, fr, fc, a1, a2, a3, a4, a5, a6, a7, a8, a9, a10, a11, a12, a13) p := by
  refine nm_r hx ?_
  refine pk_loop (σ := Unit) (fun n j _ => wX_below_7 P ft fr fc a1 a2 a3 a4 a5 a6 a7 a8 a9 a10 a11 a12 a13 n (wt_dn nm x j) (nI 15 - nI j)) (fun _ _ => True) 16 0 () (by omega) trivial ?_ ?_
  · intro n _ _
    exact br_t (pk_sneg (by omega) (by omega)) (by rw [he]; exact h)
  · intro n j _ hj _ hw
    have t : wX_below_7 P ft fr fc a1 a2 a3 a4 a5 a6 a7 a8 a9 a10 a11 a12 a13 n (wt_dn nm x (j + 1)) (nI 15 - nI (j + 1)) := hw () trivial
    have es : wt_dn nm x (j + 1) = wt_ds (nm (15 - j)) (15 - j) (wt_dn nm x j) := rfl
    unfold wt_ds at es
    have ek : nI (15 - j) + (-1) = nI 15 - nI (j + 1) := by
      rw [← pk_sub (show j ≤ 15 by omega), ← nI_1 j]
      grind
    show wX_below_7 P ft fr fc a1 a2 a3 a4 a5 a6 a7 a8 a9 a10 a11 a12 a13 (n + 1) (wt_dn nm x j) (nI 15 - nI j)
    rw [pk_sub (show j ≤ 15 by omega)]
    refine br_f (nI_pos (by omega)) ⟨pk_in (15 - j) 16 (by omega), nm_r (show a6 (nI (15 - j)).toNatClampNeg = nI (15 - j) by rw [nI_clamp (by omega)]; exact h6 _ (by omega)) ?_⟩
    refine br_c (fun z => ⟨pk_in (15 - j) 16 (by omega), nm_r (show _ = wt_dn nm x j ||| nm (15 - j) by rw [nI_clamp (by omega), h4 _ (by omega)]) (nm_r ek ?_)⟩) (fun z => nm_r ek ?_)
    · rw [if_pos z] at es
      rw [es] at t
      exact t
    · rw [if_neg z] at es
      rw [es] at t
      exact t
theorem wt_dep {P : Int32 → Prop} {nm : Nat → Int32} {c : Nat} {x y v : Int32} (hc : c < 16) (hx : (1 : Int32) <<< (nI c &&& 31) = x) (h6 : wt_id a6) (h4 : ∀ i, i < 16 → a4 i = nm i) (he : wt_up nm x 16 = y) (hv : wt_cn y 16 = v) (h : P v) : wpX_dependents P (ft, fr, fc, a1, a2, a3, a4, a5, a6, a7, a8, a9, a10, a11, a12, a13) (nI c) := by
  unfold wpX_dependents
  dsimp only
  refine wt_off c hc (br_t rfl ?_)
  rw [hx]
  refine wt_above h6 h4 he ?_
  refine pk_loop (σ := Unit) (fun n i _ => wX_dependents_22 P y ft fr fc a1 a2 a3 a4 a5 a6 a7 a8 a9 a10 a11 a12 a13 n (wt_cn y i) (nI i)) (fun _ _ => True) 16 0 () (by omega) trivial ?_ ?_
  · intro n _ _
    exact pk_le 16 16 (fun _ => by rw [hv]; exact h) (fun z => absurd z (by omega))
  · intro n i _ hi _ hw
    exact pk_le 16 i (fun z => absurd z (by omega)) (fun _ => nm_e (nm_r (nI_1 i) (hw () trivial)))
theorem wt_sort {P : St2 → Prop} (h4 : ∀ i, i < 16 → (a4 i &&& (nI (2 ^ i - 1) ^^^ (-1))) = 0) (hp : ∀ s, wt_id s → P (ft, fr, fc, a1, a2, a3, a4, a5, s, a7, a8, a9, a10, a11, a12, a13)) : wpX_sortCells P (ft, fr, fc, a1, a2, a3, a4, a5, a6, a7, a8, a9, a10, a11, a12, a13) := by
  refine pk_loop (fun n i s => wX_sortCells_4 P ft fr fc n (nI (2 ^ i - 1)) (nI i) a1 a2 a3 a4 a5 s a7 a8 a9 a10 a11 a12 a13) (fun i s => ∀ j, j < i → s j = nI j) 16 0 a6 (by omega) (fun j hj => absurd hj (by omega)) (fun n s h => pk_le 16 16 (fun _ => hp s h) (fun z => absurd z (by omega))) ?_
  intro n i s hi h hw
  refine pk_le 16 i (fun z => absurd z (by omega)) (fun _ => ?_)
  have h33 : wX_sortCells_33 P (wX_sortCells_4 P ft fr fc n) (nI (2 ^ i - 1)) (nI i) (nI i) ft fr fc a1 a2 a3 a4 a5 s a7 a8 a9 a10 a11 a12 a13 :=
    ⟨pk_in i 16 hi, nm_e (nm_r (wt_pl i hi) (nm_r (nI_1 i) (hw _ (wt_fill (nI_clamp (by omega)) h rfl))))⟩
  refine pk_loop (σ := Unit) (fun n' c _ => wX_sortCells_12 P (wX_sortCells_4 P ft fr fc n) (nI (2 ^ i - 1)) (nI i) ft fr fc a1 a2 a3 a4 a5 s a7 a8 a9 a10 a11 a12 a13 n' (nI c)) (fun _ _ => True) i 0 () (by omega) trivial ?_ ?_
  · intro n' _ _
    refine pk_le 15 i (fun _ => h33) (fun z => ?_)
    refine br_t (wt_b0 i hi) ⟨pk_in i 16 hi, ?_⟩
    rw [nI_clamp (show i < 2 ^ 31 by omega)]
    exact br_t (h4 i hi) (br_f (by decide) h33)
  · intro n' c _ hc _ hw'
    exact pk_le 15 c (fun z => absurd z (by omega)) (fun _ => br_f (wt_b1 i hi c hc) (br_t rfl (nm_r (nI_1 c) (hw' () trivial))))
end
end
section
section
variable {post : Int32 → St2 → Prop} {ft fr fc : Int32} {a1 a2 a3 a4 a5 a6 a7 a8 a9 a10 a11 a12 a13 : Nat → Int32}
/-! the stack -/
theorem wt_ap2 {u : Nat} (hu : u + 2 ≤ 9) (h : post (nI (u + 1)) (ft, fr, fc, a1, a2, a3, a4, a5, a6, a7, a8, a9, a10, a11, a12, upd a13 u (a13 u + a13 (u + 1)))) : wpX_apply post (ft, fr, fc, a1, a2, a3, a4, a5, a6, a7, a8, a9, a10, a11, a12, a13) 2 (nI (u + 2)) := by
  have e2 : nI (u + 2) - 2 = nI u := by rw [show (2 : Int32) = nI 2 from rfl, pk_sub (by omega)]; rfl
  have e1 : nI (u + 2) - 1 = nI (u + 1) := by rw [show (1 : Int32) = nI 1 from rfl, pk_sub (by omega)]; rfl
  unfold wpX_apply
  dsimp only
  rw [e2, e1, nI_clamp (show u < 2 ^ 31 by omega), nI_clamp (show u + 1 < 2 ^ 31 by omega)]
  refine br_f (by decide) (pk_le 2 (u + 2) (fun _ => ⟨pk_in u 9 (by omega), nm_e ⟨pk_in (u + 1) 9 (by omega), nm_e ?_⟩⟩) (fun z => absurd z (by omega)))
  exact br_f (by decide) (br_f (by decide) (br_t rfl ⟨pk_in u 9 (by omega), nm_e h⟩))
theorem wt_ap7 {u : Nat} (hu : u + 3 ≤ 9) (h : post (nI (u + 1)) (ft, fr, fc, a1, a2, a3, a4, a5, a6, a7, a8, a9, a10, a11, a12, upd a13 u (wt_pc (a13 u) (a13 (u + 1)) (a13 (u + 2))))) : wpX_apply post (ft, fr, fc, a1, a2, a3, a4, a5, a6, a7, a8, a9, a10, a11, a12, a13) 7 (nI (u + 3)) := by
  have e3 : nI (u + 3) - 3 = nI u := by rw [show (3 : Int32) = nI 3 from rfl, pk_sub (by omega)]; rfl
  have e2 : nI (u + 3) - 2 = nI (u + 1) := by rw [show (2 : Int32) = nI 2 from rfl, pk_sub (by omega)]; rfl
  have e1 : nI (u + 3) - 1 = nI (u + 2) := by rw [show (1 : Int32) = nI 1 from rfl, pk_sub (by omega)]; rfl
  unfold wpX_apply
  dsimp only
  rw [e3, e2, e1, nI_clamp (show u < 2 ^ 31 by omega), nI_clamp (show u + 1 < 2 ^ 31 by omega), nI_clamp (show u + 2 < 2 ^ 31 by omega)]
  unfold wt_pc at h
  refine br_t rfl (pk_le 3 (u + 3) (fun _ => ⟨pk_in u 9 (by omega), br_c (fun z => ⟨pk_in (u + 2) 9 (by omega), pk_in u 9 (by omega), nm_e ?_⟩) (fun z => ⟨pk_in (u + 1) 9 (by omega), pk_in u 9 (by omega), nm_e ?_⟩)⟩) (fun z => absurd z (by omega)))
  · rw [if_pos z] at h
    exact h
  · rw [if_neg z] at h
    exact h
theorem wt_we {n c i : Nat} {x2 : Int32} (hc : c < 16) (hi : i < 9) (hl : a1 c = nI i) (h : post (a13 0) (ft, fr, fc, a1, a2, a3, a4, a5, a6, a7, a8, a9, a10, a11, a12, a13)) : wX_work_4 post (nI c) (n + 1) x2 (nI i) ft fr fc a1 a2 a3 a4 a5 a6 a7 a8 a9 a10 a11 a12 a13 :=
  ⟨pk_in c 16 hc, pk_le i i (fun _ => h) (fun z => absurd z (by omega)) (by rw [nI_clamp (by omega)]; exact hl)⟩
theorem wt_wc {n c i l t g : Nat} (hc : c < 16) (hl : a1 c = nI l) (hi : i < l) (h8 : l ≤ 8) (h2 : a2 (c * 8 + i) = 1) (h3 : a3 (c * 8 + i) = nI g) (hg : g < 16) (ht : t < 9) (h : wX_work_4 post (nI c) n (nI (t + 1)) (nI (i + 1)) ft fr fc a1 a2 a3 a4 a5 a6 a7 a8 a9 a10 a11 a12 (upd a13 t (a5 g))) : wX_work_4 post (nI c) (n + 1) (nI t) (nI i) ft fr fc a1 a2 a3 a4 a5 a6 a7 a8 a9 a10 a11 a12 a13 := by
  have e : nI c * 8 + nI i = nI (c * 8 + i) := by rw [show (8 : Int32) = nI 8 from rfl, pk_mul, nI_add]
  refine ⟨pk_in c 16 hc, pk_le l i (fun z => absurd z (by omega)) (fun _ => ?_) (by rw [nI_clamp (by omega)]; exact hl)⟩
  rw [e, nI_clamp (show c * 8 + i < 2 ^ 31 by omega)]
  refine ⟨pk_in (c * 8 + i) 128 (by omega), nm_r h2 ⟨pk_in (c * 8 + i) 128 (by omega), nm_r h3 ?_⟩⟩
  refine br_f (by decide) (br_t rfl ⟨pk_in g 16 hg, pk_in t 9 ht, nm_r ?_ (nm_r (nI_1 t) (nm_r (nI_1 i) h))⟩)
  rw [nI_clamp (show t < 2 ^ 31 by omega), nI_clamp (show g < 2 ^ 31 by omega)]
theorem wt_wn {n c i l t : Nat} (hc : c < 16) (hl : a1 c = nI l) (hi : i < l) (h8 : l ≤ 8) (h2 : a2 (c * 8 + i) = 0) (ht : t < 9) (h : wX_work_4 post (nI c) n (nI (t + 1)) (nI (i + 1)) ft fr fc a1 a2 a3 a4 a5 a6 a7 a8 a9 a10 a11 a12 (upd a13 t (a3 (c * 8 + i)))) : wX_work_4 post (nI c) (n + 1) (nI t) (nI i) ft fr fc a1 a2 a3 a4 a5 a6 a7 a8 a9 a10 a11 a12 a13 := by
  have e : nI c * 8 + nI i = nI (c * 8 + i) := by rw [show (8 : Int32) = nI 8 from rfl, pk_mul, nI_add]
  refine ⟨pk_in c 16 hc, pk_le l i (fun z => absurd z (by omega)) (fun _ => ?_) (by rw [nI_clamp (by omega)]; exact hl)⟩
  rw [e, nI_clamp (show c * 8 + i < 2 ^ 31 by omega)]
  refine ⟨pk_in (c * 8 + i) 128 (by omega), nm_r h2 ⟨pk_in (c * 8 + i) 128 (by omega), nm_e ?_⟩⟩
  refine br_t rfl ⟨pk_in t 9 ht, nm_r ?_ (nm_r (nI_1 t) (nm_r (nI_1 i) h))⟩
  rw [nI_clamp (show t < 2 ^ 31 by omega)]
theorem wt_wa {n c i l u : Nat} (hc : c < 16) (hl : a1 c = nI l) (hi : i < l) (h8 : l ≤ 8) (h2 : a2 (c * 8 + i) = 2) (hu : u + 2 ≤ 9) (h : wX_work_4 post (nI c) n (nI (u + 1)) (nI (i + 1)) ft fr fc a1 a2 a3 a4 a5 a6 a7 a8 a9 a10 a11 a12 (upd a13 u (a13 u + a13 (u + 1)))) : wX_work_4 post (nI c) (n + 1) (nI (u + 2)) (nI i) ft fr fc a1 a2 a3 a4 a5 a6 a7 a8 a9 a10 a11 a12 a13 := by
  have e : nI c * 8 + nI i = nI (c * 8 + i) := by rw [show (8 : Int32) = nI 8 from rfl, pk_mul, nI_add]
  refine ⟨pk_in c 16 hc, pk_le l i (fun z => absurd z (by omega)) (fun _ => ?_) (by rw [nI_clamp (by omega)]; exact hl)⟩
  rw [e, nI_clamp (show c * 8 + i < 2 ^ 31 by omega)]
  refine ⟨pk_in (c * 8 + i) 128 (by omega), nm_r h2 ⟨pk_in (c * 8 + i) 128 (by omega), nm_e ?_⟩⟩
  exact br_f (by decide) (br_f (by decide) (wt_ap2 hu (nm_r (nI_1 i) h)))
theorem wt_wp {n c i l u : Nat} (hc : c < 16) (hl : a1 c = nI l) (hi : i < l) (h8 : l ≤ 8) (h2 : a2 (c * 8 + i) = 7) (hu : u + 3 ≤ 9) (h : wX_work_4 post (nI c) n (nI (u + 1)) (nI (i + 1)) ft fr fc a1 a2 a3 a4 a5 a6 a7 a8 a9 a10 a11 a12 (upd a13 u (wt_pc (a13 u) (a13 (u + 1)) (a13 (u + 2))))) : wX_work_4 post (nI c) (n + 1) (nI (u + 3)) (nI i) ft fr fc a1 a2 a3 a4 a5 a6 a7 a8 a9 a10 a11 a12 a13 := by
  have e : nI c * 8 + nI i = nI (c * 8 + i) := by rw [show (8 : Int32) = nI 8 from rfl, pk_mul, nI_add]
  refine ⟨pk_in c 16 hc, pk_le l i (fun z => absurd z (by omega)) (fun _ => ?_) (by rw [nI_clamp (by omega)]; exact hl)⟩
  rw [e, nI_clamp (show c * 8 + i < 2 ^ 31 by omega)]
  refine ⟨pk_in (c * 8 + i) 128 (by omega), nm_r h2 ⟨pk_in (c * 8 + i) 128 (by omega), nm_e ?_⟩⟩
  exact br_f (by decide) (br_f (by decide) (wt_ap7 hu (nm_r (nI_1 i) h)))
/-- the sum in cell 5 -/
def wt_F5 (a1 a2 a3 : Nat → Int32) : Prop := a1 5 = 3 ∧ a2 40 = 1 ∧ a2 41 = 1 ∧ a2 42 = 2 ∧ a3 40 = 1 ∧ a3 41 = 2
/-- the pick in cell 9 -/
def wt_F9 (k : Int32) (a1 a2 a3 : Nat → Int32) : Prop := a1 9 = 4 ∧ a2 72 = 1 ∧ a2 73 = 1 ∧ a2 74 = 0 ∧ a2 75 = 7 ∧ a3 72 = 1 ∧ a3 73 = 5 ∧ a3 74 = k
theorem wt_w5 (hf : wt_F5 a1 a2 a3) (hp : ∀ s, post (a5 1 + a5 2) (ft, fr, fc, a1, a2, a3, a4, a5, a6, a7, a8, a9, a10, a11, a12, s)) : wpX_work post (ft, fr, fc, a1, a2, a3, a4, a5, a6, a7, a8, a9, a10, a11, a12, a13) (nI 5) := by
  obtain ⟨h1, h20, h21, h22, h30, h31⟩ := hf
  have z : wX_work_4 post (nI 5) 4 (nI 0) (nI 0) ft fr fc a1 a2 a3 a4 a5 a6 a7 a8 a9 a10 a11 a12 a13 :=
    wt_wc (c := 5) (i := 0) (l := 3) (t := 0) (g := 1) (by omega) h1 (by omega) (by omega) h20 h30 (by omega) (by omega)
      (wt_wc (c := 5) (i := 1) (l := 3) (t := 1) (g := 2) (by omega) h1 (by omega) (by omega) h21 h31 (by omega) (by omega)
        (wt_wa (c := 5) (i := 2) (l := 3) (u := 0) (by omega) h1 (by omega) (by omega) h22 (by omega)
          (wt_we (c := 5) (i := 3) (by omega) (by omega) h1 (hp _))))
  exact ⟨4, z⟩
theorem wt_w9 {k : Int32} (hf : wt_F9 k a1 a2 a3) (hp : ∀ s, post (wt_pc (a5 1) (a5 5) k) (ft, fr, fc, a1, a2, a3, a4, a5, a6, a7, a8, a9, a10, a11, a12, s)) : wpX_work post (ft, fr, fc, a1, a2, a3, a4, a5, a6, a7, a8, a9, a10, a11, a12, a13) (nI 9) := by
  obtain ⟨h1, h20, h21, h22, h23, h30, h31, h32⟩ := hf
  subst h32
  have z : wX_work_4 post (nI 9) 5 (nI 0) (nI 0) ft fr fc a1 a2 a3 a4 a5 a6 a7 a8 a9 a10 a11 a12 a13 :=
    wt_wc (c := 9) (i := 0) (l := 4) (t := 0) (g := 1) (by omega) h1 (by omega) (by omega) h20 h30 (by omega) (by omega)
      (wt_wc (c := 9) (i := 1) (l := 4) (t := 1) (g := 5) (by omega) h1 (by omega) (by omega) h21 h31 (by omega) (by omega)
        (wt_wn (c := 9) (i := 2) (l := 4) (t := 2) (by omega) h1 (by omega) (by omega) h22 (by omega)
          (wt_wp (c := 9) (i := 3) (l := 4) (u := 0) (by omega) h1 (by omega) (by omega) h23 (by omega)
            (wt_we (c := 9) (i := 4) (by omega) (by omega) h1 (hp _)))))
  exact ⟨5, z⟩
/-! spread -/
theorem wt_se {n : Nat} {x2 x3 x4 : Int32} (h : post x4 (ft, fr, fc, a1, a2, a3, a4, a5, a6, a7, a8, a9, a10, a11, a12, a13)) : wX_spread_8 post x2 (n + 1) x3 x4 (nI 16) ft fr fc a1 a2 a3 a4 a5 a6 a7 a8 a9 a10 a11 a12 a13 :=
  pk_le 16 16 (fun _ => h) (fun z => absurd z (by omega))
theorem wt_sk {n i : Nat} {x2 x3 x4 : Int32} (hi : i < 16) (h6 : a6 i = nI i) (h4 : (a4 i &&& x3) = 0) (h : wX_spread_8 post x2 n x3 x4 (nI (i + 1)) ft fr fc a1 a2 a3 a4 a5 a6 a7 a8 a9 a10 a11 a12 a13) : wX_spread_8 post x2 (n + 1) x3 x4 (nI i) ft fr fc a1 a2 a3 a4 a5 a6 a7 a8 a9 a10 a11 a12 a13 := by
  refine pk_le 16 i (fun z => absurd z (by omega)) (fun _ => ⟨pk_in i 16 hi, nm_r (show a6 (nI i).toNatClampNeg = nI i by rw [nI_clamp (by omega)]; exact h6) ?_⟩)
  exact br_c (fun _ => ⟨pk_in i 16 hi, br_t (by rw [nI_clamp (by omega)]; exact h4) (nm_r (nI_1 i) h)⟩) (fun _ => nm_r (nI_1 i) h)
theorem wt_sw {n i : Nat} {x2 x3 x4 : Int32} (hi : i < 16) (h6 : a6 i = nI i) (hw : ¬ ((x2 >>> (nI i &&& 31)) &&& 1) = 1) (h : wX_spread_8 post x2 n x3 x4 (nI (i + 1)) ft fr fc a1 a2 a3 a4 a5 a6 a7 a8 a9 a10 a11 a12 a13) : wX_spread_8 post x2 (n + 1) x3 x4 (nI i) ft fr fc a1 a2 a3 a4 a5 a6 a7 a8 a9 a10 a11 a12 a13 := by
  refine pk_le 16 i (fun z => absurd z (by omega)) (fun _ => ⟨pk_in i 16 hi, nm_r (show a6 (nI i).toNatClampNeg = nI i by rw [nI_clamp (by omega)]; exact h6) ?_⟩)
  exact br_f hw (nm_r (nI_1 i) h)
theorem wt_hit {n i : Nat} {x2 x3 x4 v : Int32} (hi : i < 16) (h6 : a6 i = nI i) (hw : ((x2 >>> (nI i &&& 31)) &&& 1) = 1) (h4 : ¬ (a4 i &&& x3) = 0) (h1 : ¬ a1 i ≤ 0)
    (hk : ∀ Q : Int32 → St2 → Prop, (∀ s, Q v (ft, fr, fc, a1, a2, a3, a4, a5, a6, a7, a8, a9, a10, a11, a12, s)) → wpX_work Q (ft, fr, fc, a1, a2, a3, a4, a5, a6, a7, a8, a9, a10, a11, a12, a13) (nI i))
    (hE : v = a5 i → ∀ s, wX_spread_8 post x2 n x3 x4 (nI (i + 1)) ft fr fc a1 a2 a3 a4 (upd a5 i v) a6 a7 a8 a9 a10 a11 a12 s)
    (hN : ¬ v = a5 i → ∀ s, wX_spread_8 post x2 n (x3 ||| ((1 : Int32) <<< (nI i &&& 31))) (x4 + 1) (nI (i + 1)) ft fr fc a1 a2 a3 a4 (upd a5 i v) a6 a7 a8 a9 a10 a11 a12 s) : wX_spread_8 post x2 (n + 1) x3 x4 (nI i) ft fr fc a1 a2 a3 a4 a5 a6 a7 a8 a9 a10 a11 a12 a13 := by
  refine pk_le 16 i (fun z => absurd z (by omega)) (fun _ => ⟨pk_in i 16 hi, nm_r (show a6 (nI i).toNatClampNeg = nI i by rw [nI_clamp (by omega)]; exact h6) ?_⟩)
  refine br_t hw ⟨pk_in i 16 hi, br_f (by rw [nI_clamp (by omega)]; exact h4) ⟨pk_in i 16 hi, br_f (by rw [nI_clamp (by omega)]; exact h1) (hk _ (fun s => ⟨pk_in i 16 hi, ?_⟩))⟩⟩
  rw [nI_clamp (show i < 2 ^ 31 by omega)]
  refine br_c (fun z => nm_r (nI_1 i) ?_) (fun z => ⟨pk_in i 16 hi, nm_e (nm_e (nm_e (nm_r (nI_1 i) (hN z s))))⟩)
  have t := hE z s
  rw [wt_ue z] at t
  exact t
theorem wt_sr {x2 x3 x4 : Int32} (h6 : wt_id a6) (d : Nat) : ∀ {n i : Nat}, i + d ≤ 16 → (∀ j, i ≤ j → j < i + d → (a4 j &&& x3) = 0) → wX_spread_8 post x2 n x3 x4 (nI (i + d)) ft fr fc a1 a2 a3 a4 a5 a6 a7 a8 a9 a10 a11 a12 a13 → wX_spread_8 post x2 (n + d) x3 x4 (nI i) ft fr fc a1 a2 a3 a4 a5 a6 a7 a8 a9 a10 a11 a12 a13 := by
  induction d with
  | zero => exact fun _ _ h => h
  | succ d ih =>
    intro n i hi hj h
    have e : i + (d + 1) = (i + 1) + d := by omega
    rw [e] at h
    exact wt_sk (n := n + d) (by omega) (h6 i (by omega)) (hj i (by omega) (by omega)) (ih (by omega) (fun j j1 j2 => hj j (by omega) (by omega)) h)
theorem wt_s0 {p0 p1 : Int32} (h6 : wt_id a6) (h4 : ∀ j, j < 16 → (a4 j &&& p0) = 0) (h : post 0 (ft, fr, fc, a1, a2, a3, a4, a5, a6, a7, a8, a9, a10, a11, a12, a13)) : wpX_spread post (ft, fr, fc, a1, a2, a3, a4, a5, a6, a7, a8, a9, a10, a11, a12, a13) p0 p1 := by
  have z : wX_spread_8 post p1 (1 + 16) p0 0 (nI 0) ft fr fc a1 a2 a3 a4 a5 a6 a7 a8 a9 a10 a11 a12 a13 := wt_sr h6 16 (by omega) (fun j _ hj => h4 j (by omega)) (wt_se (n := 0) h)
  exact ⟨1 + 16, z⟩
/-- the sheet: the sum in 5, the pick in 9, the names, the order -/
def wt_F (k : Int32) (a1 a2 a3 a4 a6 : Nat → Int32) : Prop := wt_F5 a1 a2 a3 ∧ wt_F9 k a1 a2 a3 ∧ (∀ i, i < 16 → a4 i = wt_n2 i) ∧ wt_id a6
theorem wt_az {x3 : Int32} (h4 : ∀ i, i < 16 → a4 i = wt_n2 i) {j : Nat} (hj : j < 16) (h5 : j ≠ 5) (h9 : j ≠ 9) : (a4 j &&& x3) = 0 := by
  rw [h4 j hj, wt_n2z h5 h9]
  exact Int32.zero_and
theorem wt_sp6 {k : Int32} (hf : wt_F k a1 a2 a3 a4 a6) (hp : ∀ q s, post q (ft, fr, fc, a1, a2, a3, a4, upd (upd a5 5 (a5 1 + a5 2)) 9 (wt_pc (a5 1) (a5 1 + a5 2) k), a6, a7, a8, a9, a10, a11, a12, s)) : wpX_spread post (ft, fr, fc, a1, a2, a3, a4, a5, a6, a7, a8, a9, a10, a11, a12, a13) 6 544 := by
  obtain ⟨f5, f9, h4, h6⟩ := hf
  have e5 : ¬ a1 5 ≤ 0 := by rw [f5.1]; decide
  have e9 : ¬ a1 9 ≤ 0 := by rw [f9.1]; decide
  have t : ∀ (x3 x4 : Int32), ¬ ((34 : Int32) &&& x3) = 0 → ∀ s, wX_spread_8 post 544 11 x3 x4 (nI 6) ft fr fc a1 a2 a3 a4 (upd a5 5 (a5 1 + a5 2)) a6 a7 a8 a9 a10 a11 a12 s := by
    intro x3 x4 hx s
    refine wt_sr (n := 8) (i := 6) h6 3 (by omega) (fun j j1 j2 => wt_az h4 (by omega) (by omega) (by omega)) ?_
    refine wt_hit (n := 7) (i := 9) (v := wt_pc (a5 1) (a5 1 + a5 2) k) (by omega) (h6 9 (by omega)) (by decide) (by rw [h4 9 (by omega)]; exact hx) e9 (fun Q h => wt_w9 f9 h) (fun _ s => ?_) (fun _ s => ?_)
    · exact wt_sr (n := 1) (i := 10) h6 6 (by omega) (fun j j1 j2 => wt_az h4 (by omega) (by omega) (by omega)) (wt_se (hp _ s))
    · exact wt_sr (n := 1) (i := 10) h6 6 (by omega) (fun j j1 j2 => wt_az h4 (by omega) (by omega) (by omega)) (wt_se (hp _ s))
  have z : wX_spread_8 post 544 17 6 0 (nI 0) ft fr fc a1 a2 a3 a4 a5 a6 a7 a8 a9 a10 a11 a12 a13 := by
    refine wt_sr (n := 12) (i := 0) h6 5 (by omega) (fun j j1 j2 => wt_az h4 (by omega) (by omega) (by omega)) ?_
    exact wt_hit (n := 11) (i := 5) (v := a5 1 + a5 2) (by omega) (h6 5 (by omega)) (by decide) (by rw [h4 5 (by omega)]; decide) e5 (fun Q h => wt_w5 f5 h) (fun _ s => t _ _ (by decide) s) (fun _ s => t _ _ (by decide) s)
  exact ⟨17, z⟩
theorem wt_sp34 {k : Int32} (hf : wt_F k a1 a2 a3 a4 a6) (hp : ∀ q s, post q (ft, fr, fc, a1, a2, a3, a4, upd a5 9 (wt_pc (a5 1) (a5 5) k), a6, a7, a8, a9, a10, a11, a12, s)) : wpX_spread post (ft, fr, fc, a1, a2, a3, a4, a5, a6, a7, a8, a9, a10, a11, a12, a13) 34 512 := by
  obtain ⟨f5, f9, h4, h6⟩ := hf
  have e9 : ¬ a1 9 ≤ 0 := by rw [f9.1]; decide
  have z : wX_spread_8 post 512 17 34 0 (nI 0) ft fr fc a1 a2 a3 a4 a5 a6 a7 a8 a9 a10 a11 a12 a13 := by
    refine wt_sr (n := 12) (i := 0) h6 5 (by omega) (fun j j1 j2 => wt_az h4 (by omega) (by omega) (by omega)) ?_
    refine wt_sw (n := 11) (i := 5) (by omega) (h6 5 (by omega)) (by decide) ?_
    refine wt_sr (n := 8) (i := 6) h6 3 (by omega) (fun j j1 j2 => wt_az h4 (by omega) (by omega) (by omega)) ?_
    refine wt_hit (n := 7) (i := 9) (v := wt_pc (a5 1) (a5 5) k) (by omega) (h6 9 (by omega)) (by decide) (by rw [h4 9 (by omega)]; decide) e9 (fun Q h => wt_w9 f9 h) (fun _ s => ?_) (fun _ s => ?_)
    · exact wt_sr (n := 1) (i := 10) h6 6 (by omega) (fun j j1 j2 => wt_az h4 (by omega) (by omega) (by omega)) (wt_se (hp _ s))
    · exact wt_sr (n := 1) (i := 10) h6 6 (by omega) (fun j j1 j2 => wt_az h4 (by omega) (by omega) (by omega)) (wt_se (hp _ s))
  exact ⟨17, z⟩
theorem wt_sp4 {k : Int32} (hf : wt_F k a1 a2 a3 a4 a6) (hne : ¬ a5 1 + a5 2 = a5 5)
    (hE : wt_pc (a5 1) (a5 1 + a5 2) k = a5 9 → ∀ s, post 1 (ft, fr, fc, a1, a2, a3, a4, upd (upd a5 5 (a5 1 + a5 2)) 9 (wt_pc (a5 1) (a5 1 + a5 2) k), a6, a7, a8, a9, a10, a11, a12, s))
    (hN : ¬ wt_pc (a5 1) (a5 1 + a5 2) k = a5 9 → ∀ s, post 2 (ft, fr, fc, a1, a2, a3, a4, upd (upd a5 5 (a5 1 + a5 2)) 9 (wt_pc (a5 1) (a5 1 + a5 2) k), a6, a7, a8, a9, a10, a11, a12, s)) : wpX_spread post (ft, fr, fc, a1, a2, a3, a4, a5, a6, a7, a8, a9, a10, a11, a12, a13) 4 65535 := by
  obtain ⟨f5, f9, h4, h6⟩ := hf
  have e5 : ¬ a1 5 ≤ 0 := by rw [f5.1]; decide
  have e9 : ¬ a1 9 ≤ 0 := by rw [f9.1]; decide
  have z : wX_spread_8 post 65535 17 4 0 (nI 0) ft fr fc a1 a2 a3 a4 a5 a6 a7 a8 a9 a10 a11 a12 a13 := by
    refine wt_sr (n := 12) (i := 0) h6 5 (by omega) (fun j j1 j2 => wt_az h4 (by omega) (by omega) (by omega)) ?_
    refine wt_hit (n := 11) (i := 5) (v := a5 1 + a5 2) (by omega) (h6 5 (by omega)) (by decide) (by rw [h4 5 (by omega)]; decide) e5 (fun Q h => wt_w5 f5 h) (fun z => absurd z hne) (fun _ s => ?_)
    refine wt_sr (n := 8) (i := 6) h6 3 (by omega) (fun j j1 j2 => wt_az h4 (by omega) (by omega) (by omega)) ?_
    refine wt_hit (n := 7) (i := 9) (v := wt_pc (a5 1) (a5 1 + a5 2) k) (by omega) (h6 9 (by omega)) (by decide) (by rw [h4 9 (by omega)]; decide) e9 (fun Q h => wt_w9 f9 h) (fun g s => ?_) (fun g s => ?_)
    · exact wt_sr (n := 1) (i := 10) h6 6 (by omega) (fun j j1 j2 => wt_az h4 (by omega) (by omega) (by omega)) (wt_se (hE g s))
    · exact wt_sr (n := 1) (i := 10) h6 6 (by omega) (fun j j1 j2 => wt_az h4 (by omega) (by omega) (by omega)) (wt_se (hN g s))
  exact ⟨17, z⟩
end
end
section
section
variable {post : Int32 → St2 → Prop} {ft fr fc : Int32} {a1 a2 a3 a4 a5 a6 a7 a8 a9 a10 a11 a12 a13 : Nat → Int32}
/-! the typed tokens -/
theorem wt_dq {P : Int32 → Prop} {n m d i q : Nat} (hm : m ≤ 8) (hi : i < m) (hd : d < 100) (hq8 : q < 8) (hq : ∀ Q : Int32 → Prop, Q (nI q) → wpX_pops Q () (a7 i)) (h : wX_sound_4 P (nI m) fr fc a1 a2 a3 a4 a5 a6 a7 a8 a9 a10 a11 a12 a13 n (nI (d + 1)) (nI (i + 1))) : wX_sound_4 P (nI m) fr fc a1 a2 a3 a4 a5 a6 a7 a8 a9 a10 a11 a12 a13 (n + 1) (nI (d + q)) (nI i) := by
  refine pk_le m i (fun z => absurd z (by omega)) (fun _ => ⟨pk_in i 8 (by omega), ?_⟩)
  rw [nI_clamp (show i < 2 ^ 31 by omega)]
  refine hq _ (pk_le q (d + q) (fun _ => nm_r ?_ (nm_r (nI_1 i) h)) (fun z => absurd z (by omega)))
  rw [pk_sub (show q ≤ d + q by omega), show d + q - q = d by omega, nI_1]
theorem wt_dz {P : Int32 → Prop} {n m : Nat} (hm : m ≤ 8) (h : P 1) : wX_sound_4 P (nI m) fr fc a1 a2 a3 a4 a5 a6 a7 a8 a9 a10 a11 a12 a13 (n + 1) (nI 1) (nI m) :=
  pk_le m m (fun _ => br_t rfl h) (fun z => absurd z (by omega))
theorem wt_n1 {P : Int32 → Prop} {n m i : Nat} {x g y : Int32} (hm : m ≤ 8) (hi : i < m) (h7 : a7 i = 1) (h8 : a8 i = g) (hy : x ||| ((1 : Int32) <<< (g &&& 31)) = y) (h : wX_typedNames_4 P (nI m) fr fc a1 a2 a3 a4 a5 a6 a7 a8 a9 a10 a11 a12 a13 n y (nI (i + 1))) : wX_typedNames_4 P (nI m) fr fc a1 a2 a3 a4 a5 a6 a7 a8 a9 a10 a11 a12 a13 (n + 1) x (nI i) := by
  refine pk_le m i (fun z => absurd z (by omega)) (fun _ => ⟨pk_in i 8 (by omega), ?_⟩)
  rw [nI_clamp (show i < 2 ^ 31 by omega), h8]
  exact br_t h7 ⟨pk_in i 8 (by omega), nm_r hy (nm_r (nI_1 i) h)⟩
theorem wt_no {P : Int32 → Prop} {n m i : Nat} {x : Int32} (hm : m ≤ 8) (hi : i < m) (h7 : ¬ a7 i = 1) (h : wX_typedNames_4 P (nI m) fr fc a1 a2 a3 a4 a5 a6 a7 a8 a9 a10 a11 a12 a13 n x (nI (i + 1))) : wX_typedNames_4 P (nI m) fr fc a1 a2 a3 a4 a5 a6 a7 a8 a9 a10 a11 a12 a13 (n + 1) x (nI i) := by
  refine pk_le m i (fun z => absurd z (by omega)) (fun _ => ⟨pk_in i 8 (by omega), ?_⟩)
  rw [nI_clamp (show i < 2 ^ 31 by omega)]
  exact br_f h7 (nm_r (nI_1 i) h)
theorem wt_nz {P : Int32 → Prop} {n m : Nat} {x : Int32} (hm : m ≤ 8) (h : P x) : wX_typedNames_4 P (nI m) fr fc a1 a2 a3 a4 a5 a6 a7 a8 a9 a10 a11 a12 a13 (n + 1) x (nI m) :=
  pk_le m m (fun _ => h) (fun z => absurd z (by omega))
/-! formula -/
/-- s is f but for the m places behind c * 8, which are t's -/
def wt_cp (c m : Nat) (t f s : Nat → Int32) : Prop := (∀ j, j < m → s (c * 8 + j) = t j) ∧ (∀ i, i < c * 8 ∨ c * 8 + m ≤ i → s i = f i)
theorem wt_cp0 {c : Nat} {t f : Nat → Int32} : wt_cp c 0 t f f := ⟨fun j hj => absurd hj (by omega), fun _ _ => rfl⟩
theorem wt_cps {c m : Nat} {t f s : Nat → Int32} (h : wt_cp c m t f s) : wt_cp c (m + 1) t f (upd s (c * 8 + m) (t m)) := by
  constructor
  · intro j hj
    by_cases e : j = m
    · rw [e, pk_us]
    · rw [pk_un (by omega)]
      exact h.1 j (by omega)
  · intro i hi
    rw [pk_un (by omega)]
    exact h.2 i (by omega)
theorem wt_form {c m : Nat} {set up b v : Int32} (hc : c < 16) (hm : m ≤ 8) (hb : (1 : Int32) <<< (nI c &&& 31) = b)
    (hs : ∀ Q : Int32 → Prop, Q 1 → wpX_sound Q (nI m, fr, fc, a1, a2, a3, a4, a5, a6, a7, a8, a9, a10, a11, a12, a13)) (ht : ∀ Q : Int32 → Prop, Q set → wpX_typedNames Q (nI m, fr, fc, a1, a2, a3, a4, a5, a6, a7, a8, a9, a10, a11, a12, a13)) (ha : ∀ Q : Int32 → Prop, Q up → wpX_above Q (nI m, fr, fc, a1, a2, a3, a4, a5, a6, a7, a8, a9, a10, a11, a12, a13) b)
    (hz : (set &&& up) = 0) (h4 : ∀ i, i < 16 → (upd a4 c set i &&& (nI (2 ^ i - 1) ^^^ (-1))) = 0) (h4' : ∀ i, i < 16 → (upd a4 c set i &&& b) = 0)
    (hk : ∀ s2 s3 s6, wt_cp c m a7 a2 s2 → wt_cp c m a8 a3 s3 → ∀ Q : Int32 → St2 → Prop, (∀ s, Q v (0, fr, fc, upd a1 c (nI m), s2, s3, upd a4 c set, a5, s6, a7, a8, a9, a10, a11, a12, s)) → wpX_work Q (0, fr, fc, upd a1 c (nI m), s2, s3, upd a4 c set, a5, s6, a7, a8, a9, a10, a11, a12, a13) (nI c))
    (hp : ∀ s2 s3 s6 s13, wt_cp c m a7 a2 s2 → wt_cp c m a8 a3 s3 → wt_id s6 → post 0 (0, fr, fc, upd a1 c (nI m), s2, s3, upd a4 c set, upd a5 c v, s6, a7, a8, a9, a10, a11, a12, s13)) : wpX_formula post (nI m, fr, fc, a1, a2, a3, a4, a5, a6, a7, a8, a9, a10, a11, a12, a13) (nI c) := by
  unfold wpX_formula
  dsimp only
  refine wt_off c hc (br_t rfl (hs _ (ht _ ?_)))
  rw [hb]
  refine ha _ (br_f (by decide) (br_t hz ⟨pk_in c 16 hc, nm_r (show _ = upd a1 c (nI m) by rw [nI_clamp (by omega)]) ?_⟩))
  refine pk_loop (fun n i (s : (Nat → Int32) × (Nat → Int32)) => wX_formula_67 post (nI c) set (nI m) 0 fr fc n (nI i) (upd a1 c (nI m)) s.1 s.2 a4 a5 a6 a7 a8 a9 a10 a11 a12 a13) (fun i s => wt_cp c i a7 a2 s.1 ∧ wt_cp c i a8 a3 s.2) m 0 (a2, a3) (by omega) ⟨wt_cp0, wt_cp0⟩ ?_ ?_
  · rintro n ⟨s2, s3⟩ ⟨c2, c3⟩
    refine pk_le m m (fun _ => ⟨pk_in c 16 hc, nm_r (show _ = upd a4 c set by rw [nI_clamp (by omega)]) ?_⟩) (fun z => absurd z (by omega))
    refine wt_sort h4 (fun s6 h6 => hk s2 s3 s6 c2 c3 _ (fun s13 => ⟨pk_in c 16 hc, ?_⟩))
    rw [nI_clamp (show c < 2 ^ 31 by omega)]
    refine br_c (fun z => ?_) (fun z => ⟨pk_in c 16 hc, nm_e ?_⟩)
    · have t := hp s2 s3 s6 s13 c2 c3 h6
      rw [wt_ue z] at t
      exact t
    · rw [hb]
      exact wt_s0 h6 h4' (hp s2 s3 s6 s13 c2 c3 h6)
  · rintro n i ⟨s2, s3⟩ hi ⟨c2, c3⟩ hw
    have e : nI c * 8 + nI i = nI (c * 8 + i) := by rw [show (8 : Int32) = nI 8 from rfl, pk_mul, nI_add]
    refine pk_le m i (fun z => absurd z (by omega)) (fun _ => ?_)
    rw [e, nI_clamp (show c * 8 + i < 2 ^ 31 by omega), nI_clamp (show i < 2 ^ 31 by omega)]
    exact ⟨pk_in i 8 (by omega), pk_in (c * 8 + i) 128 (by omega), nm_e ⟨pk_in i 8 (by omega), pk_in (c * 8 + i) 128 (by omega), nm_e (nm_r (nI_1 i) (hw (_, _) ⟨wt_cps c2, wt_cps c3⟩))⟩⟩
/-- a circle -/
theorem wt_formC {c m : Nat} {set up b : Int32} (hc : c < 16) (hb : (1 : Int32) <<< (nI c &&& 31) = b)
    (hs : ∀ Q : Int32 → Prop, Q 1 → wpX_sound Q (nI m, fr, fc, a1, a2, a3, a4, a5, a6, a7, a8, a9, a10, a11, a12, a13)) (ht : ∀ Q : Int32 → Prop, Q set → wpX_typedNames Q (nI m, fr, fc, a1, a2, a3, a4, a5, a6, a7, a8, a9, a10, a11, a12, a13)) (ha : ∀ Q : Int32 → Prop, Q up → wpX_above Q (nI m, fr, fc, a1, a2, a3, a4, a5, a6, a7, a8, a9, a10, a11, a12, a13) b)
    (hz : ¬ (set &&& up) = 0) (hp : post (-5) (0, fr, fc, a1, a2, a3, a4, a5, a6, a7, a8, a9, a10, a11, a12, a13)) : wpX_formula post (nI m, fr, fc, a1, a2, a3, a4, a5, a6, a7, a8, a9, a10, a11, a12, a13) (nI c) := by
  unfold wpX_formula
  dsimp only
  refine wt_off c hc (br_t rfl (hs _ (ht _ ?_)))
  rw [hb]
  exact ha _ (br_f (by decide) (br_f hz hp))
/-! number -/
theorem wt_num {c : Nat} {x b : Int32} (hc : c < 16) (hb : (1 : Int32) <<< (nI c &&& 31) = b) (hE : a5 c = x → post 0 (ft, fr, fc, upd a1 c 0, a2, a3, upd a4 c 0, a5, a6, a7, a8, a9, a10, a11, a12, a13))
    (hN : ¬ a5 c = x → ∀ Q : Int32 → St2 → Prop, (∀ r s5 s13, post (1 + r) (ft, fr, fc, upd a1 c 0, a2, a3, upd a4 c 0, s5, a6, a7, a8, a9, a10, a11, a12, s13) → Q r (ft, fr, fc, upd a1 c 0, a2, a3, upd a4 c 0, s5, a6, a7, a8, a9, a10, a11, a12, s13)) → wpX_spread Q (ft, fr, fc, upd a1 c 0, a2, a3, upd a4 c 0, upd a5 c x, a6, a7, a8, a9, a10, a11, a12, a13) b 65535) : wpX_number post (ft, fr, fc, a1, a2, a3, a4, a5, a6, a7, a8, a9, a10, a11, a12, a13) (nI c) x := by
  unfold wpX_number
  dsimp only
  refine wt_off c hc (br_t rfl ?_)
  rw [nI_clamp (show c < 2 ^ 31 by omega), hb]
  exact ⟨pk_in c 16 hc, nm_e ⟨pk_in c 16 hc, nm_e ⟨pk_in c 16 hc, br_c hE (fun z => ⟨pk_in c 16 hc, nm_e (hN z _ (fun r s5 s13 h => h))⟩)⟩⟩⟩
/-- a number that nothing hangs on -/
theorem wt_numA {c : Nat} {x b : Int32} (hc : c < 16) (hb : (1 : Int32) <<< (nI c &&& 31) = b) (h6 : wt_id a6) (h4 : ∀ i, i < 16 → (upd a4 c 0 i &&& b) = 0) (hp : ∀ r, post r (ft, fr, fc, upd a1 c 0, a2, a3, upd a4 c 0, upd a5 c x, a6, a7, a8, a9, a10, a11, a12, a13)) : wpX_number post (ft, fr, fc, a1, a2, a3, a4, a5, a6, a7, a8, a9, a10, a11, a12, a13) (nI c) x := by
  refine wt_num hc hb (fun z => ?_) (fun z Q hQ => wt_s0 h6 h4 (hQ 0 _ _ (hp _)))
  have t := hp 0
  rw [wt_ue z.symm] at t
  exact t
/-! table -/
theorem wt_214 (hp : ∀ s, (∀ j, j < 16 → s j = a12 j) → post (fr * fc) (ft, fr, fc, a1, a2, a3, a4, s, a6, a7, a8, a9, a10, a11, a12, a13)) : ∃ n, wX_table_214 post ft fr fc n 0 a1 a2 a3 a4 a5 a6 a7 a8 a9 a10 a11 a12 a13 :=
  pk_loop (fun n i s => wX_table_214 post ft fr fc n (nI i) a1 a2 a3 a4 s a6 a7 a8 a9 a10 a11 a12 a13) (fun i s => ∀ j, j < i → s j = a12 j) 16 0 a5 (by omega) (fun j hj => absurd hj (by omega))
    (fun n s h => pk_le 16 16 (fun _ => hp s h) (fun z => absurd z (by omega)))
    (fun n i s hi h hw => pk_le 16 i (fun z => absurd z (by omega)) (fun _ => ⟨pk_in i 16 hi, pk_in i 16 hi, nm_e (nm_r (nI_1 i) (hw _ (wt_fill (nI_clamp (by omega)) h (by rw [nI_clamp (by omega)]))))⟩))
theorem wt_93 {x1 x2 x3 x4 x5 : Int32} (hp : ∀ s, (∀ j, j < 16 → s j = a5 j) → ∃ n, wX_table_123 post x1 x2 x3 x4 x5 n 0 ft fr fc a1 a2 a3 a4 a5 a6 a7 a8 a9 a10 a11 s a13) : ∃ n, wX_table_93 post x1 x2 x3 x4 x5 ft fr fc n 0 a1 a2 a3 a4 a5 a6 a7 a8 a9 a10 a11 a12 a13 :=
  pk_loop (fun n i s => wX_table_93 post x1 x2 x3 x4 x5 ft fr fc n (nI i) a1 a2 a3 a4 a5 a6 a7 a8 a9 a10 a11 s a13) (fun i s => ∀ j, j < i → s j = a5 j) 16 0 a12 (by omega) (fun j hj => absurd hj (by omega))
    (fun n s h => pk_le 16 16 (fun _ => hp s h) (fun z => absurd z (by omega)))
    (fun n i s hi h hw => pk_le 16 i (fun z => absurd z (by omega)) (fun _ => ⟨pk_in i 16 hi, pk_in i 16 hi, nm_e (nm_r (nI_1 i) (hw _ (wt_fill (nI_clamp (by omega)) h (by rw [nI_clamp (by omega)]))))⟩))
theorem wt_tab {o r c : Nat} {nm : Nat → Int32} {R C src bo up dn cone : Int32} (ho : o < 16) (hr : r < 16) (hc : c < 16) (hne : r ≠ c) (hR : a10 0 = R) (hC : a10 1 = C)
    (hsrc : ((1 : Int32) <<< (nI r &&& 31)) ||| ((1 : Int32) <<< (nI c &&& 31)) = src) (hbo : (1 : Int32) <<< (nI o &&& 31) = bo) (h6 : wt_id a6) (h4 : ∀ i, i < 16 → a4 i = nm i)
    (hup : wt_up nm src 16 = up) (hdn : wt_dn nm bo 16 = dn) (hcone : (up &&& dn) &&& (src ^^^ (-1)) = cone)
    (hp : ∀ s, (∀ j, j < 16 → s j = a5 j) → ∃ n, wX_table_123 post (nI o) (nI r) (nI c) src cone n 0 ft R C a1 a2 a3 a4 a5 a6 a7 a8 a9 (upd (upd a10 0 0) 1 0) a11 s a13) : wpX_table post (ft, fr, fc, a1, a2, a3, a4, a5, a6, a7, a8, a9, a10, a11, a12, a13) (nI o) (nI r) (nI c) := by
  unfold wpX_table
  dsimp only
  refine wt_off o ho (br_t rfl (wt_off r hr (br_t rfl (wt_off c hc (br_t rfl (pk_eq r c (fun z => absurd z hne) (fun _ => ?_)))))))
  refine nm_r hR (nm_r hC (nm_e (nm_e (nm_r hsrc ?_))))
  exact wt_above h6 h4 hup (wt_below hbo h6 h4 hdn (nm_r hcone (wt_93 hp)))
theorem wt_tabB {o r : Nat} (ho : o < 16) (hr : r < 16) (hp : post (-1) (ft, fr, fc, a1, a2, a3, a4, a5, a6, a7, a8, a9, a10, a11, a12, a13)) : wpX_table post (ft, fr, fc, a1, a2, a3, a4, a5, a6, a7, a8, a9, a10, a11, a12, a13) (nI o) (nI r) (nI r) := by
  unfold wpX_table
  dsimp only
  exact wt_off o ho (br_t rfl (wt_off r hr (br_t rfl (wt_off r hr (br_t rfl (br_t rfl hp))))))
/-- a row of one column -/
theorem wt_row {J : Int32 → Int32 → Int32 → Int32 → (Nat → Int32) → (Nat → Int32) → (Nat → Int32) → (Nat → Int32) → (Nat → Int32) → (Nat → Int32) → (Nat → Int32) → (Nat → Int32) → (Nat → Int32) → (Nat → Int32) → (Nat → Int32) → (Nat → Int32) → (Nat → Int32) → Prop} {o r c i : Nat} {x4 x5 : Int32} {s5 : Nat → Int32} (ho : o < 16) (hr : r < 16) (hc : c < 16) (hi : i < 4)
    (hsp : ∀ Q : Int32 → St2 → Prop, (∀ q s, Q q (ft, fr, 1, a1, a2, a3, a4, s5, a6, a7, a8, a9, a10, a11, a12, s)) → wpX_spread Q (ft, fr, 1, a1, a2, a3, a4, upd (upd a5 r (a9 i)) c (a9 4), a6, a7, a8, a9, a10, a11, a12, a13) x4 x5)
    (hJ : ∀ s, J (nI (i + 1)) ft fr 1 a1 a2 a3 a4 s5 a6 a7 a8 a9 a10 (upd a11 (i * 4) (s5 o)) a12 s) : ∃ n, wX_table_135 post J (nI o) (nI r) (nI c) x4 x5 (nI i) n 0 ft fr 1 a1 a2 a3 a4 a5 a6 a7 a8 a9 a10 a11 a12 a13 := by
  have e : nI i * 4 + 0 = nI (i * 4) := by rw [show (4 : Int32) = nI 4 from rfl, pk_mul]; exact nI_add (i * 4) 0
  refine ⟨2, pk_le 1 0 (fun z => absurd z (by omega)) (fun _ => ?_)⟩
  rw [e, nI_clamp (show i < 2 ^ 31 by omega), nI_clamp (show r < 2 ^ 31 by omega), nI_clamp (show c < 2 ^ 31 by omega), nI_clamp (show o < 2 ^ 31 by omega), nI_clamp (show i * 4 < 2 ^ 31 by omega), pk_cl (x := 4 + 0) 4]
  refine ⟨pk_in i 8 (by omega), pk_in r 16 hr, nm_e ⟨pk_in 4 8 (by omega), pk_in c 16 hc, nm_e (hsp _ (fun q s => ?_))⟩⟩
  refine ⟨pk_in o 16 ho, pk_in (i * 4) 16 (by omega), nm_e (nm_e ?_)⟩
  exact pk_le 1 1 (fun _ => nm_r (nI_1 i) (hJ s)) (fun z => absurd z (by omega))
end
end
section
/-- how many values change when cell 2 goes from b to t -/
def wt_N (a b t k : Int32) : Int32 := if b = t then 0 else if wt_pc a (a + b) k = wt_pc a (a + t) k then 2 else 3
section
variable {post : Int32 → St2 → Prop} {ft fr fc : Int32} {a1 a2 a3 a4 a5 a6 a7 a8 a9 a10 a11 a12 a13 : Nat → Int32}
theorem wt_F2 {k : Int32} (hf : wt_F k a1 a2 a3 a4 a6) : wt_F k (upd a1 2 0) a2 a3 (upd a4 2 0) a6 := by
  obtain ⟨f5, f9, h4, h6⟩ := hf
  refine ⟨f5, f9, fun i hi => ?_, h6⟩
  by_cases e : i = 2
  · rw [e, pk_us]
    rfl
  · rw [pk_un e]
    exact h4 i hi
theorem wt_numB {a b t k : Int32} (hf : wt_F k a1 a2 a3 a4 a6) (v1 : a5 1 = a) (v2 : a5 2 = b) (v5 : a5 5 = a + b) (v9 : a5 9 = wt_pc a (a + b) k)
    (hp : ∀ s5 s13, s5 9 = wt_pc a (a + t) k → post (wt_N a b t k) (ft, fr, fc, upd a1 2 0, a2, a3, upd a4 2 0, s5, a6, a7, a8, a9, a10, a11, a12, s13)) : wpX_number post (ft, fr, fc, a1, a2, a3, a4, a5, a6, a7, a8, a9, a10, a11, a12, a13) (nI 2) t := by
  unfold wt_N at hp
  refine wt_num (b := 4) (by omega) (by decide) (fun z => ?_) (fun z Q hQ => ?_)
  · have e : b = t := v2.symm.trans z
    have h := hp a5 a13 (by rw [v9, e])
    rw [if_pos e] at h
    exact h
  · have e : ¬ b = t := fun y => z (v2.trans y)
    have e1 : upd a5 2 t 1 + upd a5 2 t 2 = a + t := by
      show a5 1 + t = a + t
      rw [v1]
    have e2 : wt_pc (upd a5 2 t 1) (upd a5 2 t 1 + upd a5 2 t 2) k = wt_pc a (a + t) k := by
      rw [e1]
      show wt_pc (a5 1) (a + t) k = _
      rw [v1]
    have e9 : upd a5 2 t 9 = wt_pc a (a + b) k := v9
    refine wt_sp4 (wt_F2 hf) ?_ (fun g s => ?_) (fun g s => ?_)
    · rw [e1]
      exact fun y => e (wt_ab (y.trans v5)).symm
    · rw [e2, e9] at g
      have h := hp _ s (show upd (upd (upd a5 2 t) 5 (upd a5 2 t 1 + upd a5 2 t 2)) 9 (wt_pc (upd a5 2 t 1) (upd a5 2 t 1 + upd a5 2 t 2) k) 9 = wt_pc a (a + t) k from e2)
      rw [if_neg e, if_pos g.symm] at h
      exact hQ 1 _ s h
    · rw [e2, e9] at g
      have h := hp _ s (show upd (upd (upd a5 2 t) 5 (upd a5 2 t 1 + upd a5 2 t 2)) 9 (wt_pc (upd a5 2 t 1) (upd a5 2 t 1 + upd a5 2 t 2) k) 9 = wt_pc a (a + t) k from e2)
      rw [if_neg e, if_neg (fun y => g y.symm)] at h
      exact hQ 2 _ s h
theorem wt_434 {a b t k z0 z1 : Int32} {mc ms kc ks : Nat} (hf : wt_F k a1 a2 a3 a4 a6) (v1 : a5 1 = a) (v2 : a5 2 = b) (v5 : a5 5 = a + b) (v9 : a5 9 = wt_pc a (a + b) k) (r0 : a10 0 = 0) (r1 : a10 1 = 0)
    (hz : z1 + z0 = wt_N a b t k) : wL_lawOf_434 (fun r _ => r = 1) mc ms a t k z0 z1 kc ks ft fr fc a1 a2 a3 a4 a5 a6 a7 a8 a9 a10 a11 a12 a13 := by
  unfold wL_lawOf_434
  refine nm_r hz ?_
  refine wt_numB hf v1 v2 v5 v9 (fun s5 s13 w9 => ?_)
  refine br_t rfl ?_
  refine wt_val 9 (by omega) w9 ?_
  refine wt_pck ?_
  refine br_t rfl ?_
  refine wt_tab (o := 9) (r := 0) (c := 1) (nm := wt_n2) (R := nI 0) (C := nI 0) (src := 3) (bo := 512) (up := 547) (dn := 550) (cone := 544) (by omega) (by omega) (by omega) (by omega) r0 r1 (by decide) (by decide) hf.2.2.2 (wt_F2 hf).2.2.1 wt_v3 wt_v9 (by decide) (fun s12 _ => ⟨1, ?_⟩)
  refine pk_le 0 0 (fun _ => ?_) (fun z => absurd z (by omega))
  refine wt_214 (fun s _ => ?_)
  refine br_t (by decide) ?_
  refine wt_ent0 0 0 0 0 (by omega) (by omega) (by omega) (by omega) (by omega) ?_
  exact br_t rfl rfl
theorem wt_362 {a b t k z0 z1 : Int32} {mc ms kc ks : Nat} (hf : wt_F k a1 a2 a3 a4 a6) (v1 : a5 1 = a) (v2 : a5 2 = b) (v5 : a5 5 = a + b) (v9 : a5 9 = wt_pc a (a + b) k) (r0 : a10 0 = 0) (r1 : a10 1 = 0)
    (hz : z1 = z0) : wL_lawOf_362 (fun r _ => r = 1) mc ms a b t k z0 z1 kc ks ft fr fc a1 a2 a3 a4 a5 a6 a7 a8 a9 a10 a11 a12 a13 := by
  unfold wL_lawOf_362
  refine br_t hz ?_
  refine wt_isf 5 (by omega) (by rw [hf.1.1]; decide) ?_
  refine br_f (by decide) ?_
  refine wt_pck ?_
  refine wt_pck ?_
  refine br_c (fun z => ?_) (fun z => ?_)
  · refine br_t (by rw [z]) ?_
    refine br_t (by rw [z]) ?_
    exact wt_434 hf v1 v2 v5 v9 r0 r1 (by unfold wt_N; rw [if_pos z]; decide)
  · refine br_f (fun e => z (wt_ab e)) ?_
    refine br_c (fun g => ?_) (fun g => ?_)
    · exact wt_434 hf v1 v2 v5 v9 r0 r1 (by unfold wt_N; rw [if_neg z, if_pos g]; decide)
    · exact wt_434 hf v1 v2 v5 v9 r0 r1 (by unfold wt_N; rw [if_neg z, if_neg g]; decide)
end
end
section
theorem wt_lawOf (a b r s t k : Int32) : wpL_lawOf (fun r _ => r = 1) 14 403 () a b r s t k := by
  unfold wpL_lawOf
  refine ⟨by omega, by omega, 13, 387, by omega, by omega, wt_init (by omega) (by omega) (fun o ho => ?_)⟩
  refine wt_numA (c := 1) (b := 2) (by omega) (by decide) ho (by decide +kernel) (fun _ => ?_)
  refine wt_numA (c := 2) (b := 4) (by omega) (by decide) ho (by decide +kernel) (fun _ => ?_)
  refine wt_tc (t := 0) (g := 1) (by omega) (by omega) ?_
  refine wt_tc (t := 1) (g := 2) (by omega) (by omega) ?_
  refine wt_to (t := 2) (by omega) (by decide) (by decide) (by decide) ?_
  refine wt_form (c := 5) (m := 3) (set := 6) (up := 32) (b := 32) (v := a + b) (by omega) (by omega) (by decide)
    (fun Q h => ⟨4, wt_dq (i := 0) (d := 0) (q := 0) (by omega) (by omega) (by omega) (by omega) (fun Q h => br_f (by decide) h)
      (wt_dq (i := 1) (d := 1) (q := 0) (by omega) (by omega) (by omega) (by omega) (fun Q h => br_f (by decide) h)
      (wt_dq (i := 2) (d := 0) (q := 2) (by omega) (by omega) (by omega) (by omega) (fun Q h => br_t (by decide) (br_f (by decide) h)) (wt_dz (m := 3) (by omega) h)))⟩)
    (fun Q h => ⟨4, wt_n1 (i := 0) (g := 1) (y := 2) (by omega) (by omega) rfl rfl (by decide) (wt_n1 (i := 1) (g := 2) (y := 6) (by omega) (by omega) rfl rfl (by decide) (wt_no (i := 2) (by omega) (by omega) (by decide) (wt_nz (m := 3) (by omega) h)))⟩)
    (fun Q h => wt_above (nm := fun _ => 0) ho (by decide +kernel) (by decide +kernel) h)
    (by decide) (by decide +kernel) (by decide +kernel)
    (fun s2 s3 s6 c2 c3 Q h => wt_w5 ⟨rfl, c2.1 0 (by omega), c2.1 1 (by omega), c2.1 2 (by omega), c3.1 0 (by omega), c3.1 1 (by omega)⟩ h)
    (fun s2 s3 s6 s13 c2 c3 h6 => ?_)
  refine wt_tc (t := 0) (g := 1) (by omega) (by omega) ?_
  refine wt_tc (t := 1) (g := 5) (by omega) (by omega) ?_
  refine wt_to (t := 2) (by omega) (by decide) (by decide) (by decide) ?_
  refine wt_to (t := 3) (by omega) (by decide) (by decide) (by decide) ?_
  refine wt_form (c := 9) (m := 4) (set := 34) (up := 512) (b := 512) (v := wt_pc a (a + b) k) (by omega) (by omega) (by decide)
    (fun Q h => ⟨5, wt_dq (i := 0) (d := 0) (q := 0) (by omega) (by omega) (by omega) (by omega) (fun Q h => br_f (by decide) h)
      (wt_dq (i := 1) (d := 1) (q := 0) (by omega) (by omega) (by omega) (by omega) (fun Q h => br_f (by decide) h)
      (wt_dq (i := 2) (d := 2) (q := 0) (by omega) (by omega) (by omega) (by omega) (fun Q h => br_f (by decide) h)
      (wt_dq (i := 3) (d := 0) (q := 3) (by omega) (by omega) (by omega) (by omega) (fun Q h => br_t (by decide) (br_t (by decide) h)) (wt_dz (m := 4) (by omega) h))))⟩)
    (fun Q h => ⟨5, wt_n1 (i := 0) (g := 1) (y := 2) (by omega) (by omega) rfl rfl (by decide) (wt_n1 (i := 1) (g := 5) (y := 34) (by omega) (by omega) rfl rfl (by decide) (wt_no (i := 2) (by omega) (by omega) (by decide) (wt_no (i := 3) (by omega) (by omega) (by decide) (wt_nz (m := 4) (by omega) h))))⟩)
    (fun Q h => wt_above (nm := fun i => if i = 5 then 6 else 0) h6 (by decide +kernel) (by decide +kernel) h)
    (by decide) (by decide +kernel) (by decide +kernel)
    (fun s2 s3 s6 c2 c3 Q h => wt_w9 (k := k) ⟨rfl, c2.1 0 (by omega), c2.1 1 (by omega), c2.1 2 (by omega), c2.1 3 (by omega), c3.1 0 (by omega), c3.1 1 (by omega), c3.1 2 (by omega)⟩ h)
    (fun t2 t3 t6 t13 d2 d3 g6 => ?_)
  have F : wt_F k (upd (upd (upd (upd (fun _ => 0) 1 0) 2 0) 5 (nI 3)) 9 (nI 4)) t2 t3 (upd (upd (upd (upd (fun _ => 0) 1 0) 2 0) 5 6) 9 34) t6 :=
    ⟨⟨rfl, (d2.2 40 (by omega)).trans (c2.1 0 (by omega)), (d2.2 41 (by omega)).trans (c2.1 1 (by omega)), (d2.2 42 (by omega)).trans (c2.1 2 (by omega)), (d3.2 40 (by omega)).trans (c3.1 0 (by omega)), (d3.2 41 (by omega)).trans (c3.1 1 (by omega))⟩,
     ⟨rfl, d2.1 0 (by omega), d2.1 1 (by omega), d2.1 2 (by omega), d2.1 3 (by omega), d3.1 0 (by omega), d3.1 1 (by omega), d3.1 2 (by omega)⟩, by decide +kernel, g6⟩
  refine br_t rfl ?_
  refine wt_val 9 (v := wt_pc a (a + b) k) (by omega) rfl ?_
  refine wt_pck ?_
  refine br_t rfl ?_
  refine wt_tc (t := 0) (g := 9) (by omega) (by omega) ?_
  refine wt_formC (c := 1) (m := 1) (set := 512) (up := 546) (b := 2) (by omega) (by decide)
    (fun Q h => ⟨2, wt_dq (i := 0) (d := 0) (q := 0) (by omega) (by omega) (by omega) (by omega) (fun Q h => br_f (by decide) h) (wt_dz (m := 1) (by omega) h)⟩)
    (fun Q h => ⟨2, wt_n1 (i := 0) (g := 9) (y := 512) (by omega) (by omega) rfl rfl (by decide) (wt_nz (m := 1) (by omega) h)⟩)
    (fun Q h => wt_above (nm := wt_n2) g6 F.2.2.1 wt_v1 h) (by decide) ?_
  refine br_t rfl ?_
  refine wt_val 1 (v := a) (by omega) rfl ?_
  refine br_t rfl ?_
  refine wt_in1 (n := 0) (by omega) rfl ?_
  refine br_t rfl ?_
  refine wt_in1 (n := 1) (by omega) rfl ?_
  refine br_t rfl ?_
  refine wt_in0 (n := 0) (by omega) rfl ?_
  refine br_t rfl ?_
  refine wt_tabB (o := 9) (r := 1) (by omega) (by omega) ?_
  refine br_t rfl ?_
  refine wt_tab (o := 9) (r := 1) (c := 2) (nm := wt_n2) (R := nI 2) (C := nI 1) (src := 6) (bo := 512) (up := 550) (dn := 550) (cone := 544) (by omega) (by omega) (by omega) (by omega) rfl rfl (by decide) (by decide) g6 F.2.2.1 wt_v6 wt_v9 (by decide) (fun s12 h12 => ⟨3, ?_⟩)
  refine pk_le 2 0 (fun z => absurd z (by omega)) (fun _ => ?_)
  refine wt_row (i := 0) (by omega) (by omega) (by omega) (by omega) (fun Q h => wt_sp6 F h) (fun w13 => ?_)
  refine pk_le 2 1 (fun z => absurd z (by omega)) (fun _ => ?_)
  refine wt_row (i := 1) (by omega) (by omega) (by omega) (by omega) (fun Q h => wt_sp6 F h) (fun y13 => ?_)
  refine pk_le 2 2 (fun _ => ?_) (fun z => absurd z (by omega))
  refine wt_214 (fun s5 h5 => ?_)
  have v1 : s5 1 = a := (h5 1 (by omega)).trans (h12 1 (by omega))
  have v2 : s5 2 = b := (h5 2 (by omega)).trans (h12 2 (by omega))
  have v5 : s5 5 = a + b := (h5 5 (by omega)).trans (h12 5 (by omega))
  have v9 : s5 9 = wt_pc a (a + b) k := (h5 9 (by omega)).trans (h12 9 (by omega))
  refine br_t (by decide) ?_
  refine wt_ent 0 0 2 1 (v := wt_pc r (r + t) k) (by omega) (by omega) (by omega) (by omega) rfl ?_
  refine wt_pck ?_
  refine br_t rfl ?_
  refine wt_ent 1 0 2 1 (v := wt_pc s (s + t) k) (by omega) (by omega) (by omega) (by omega) rfl ?_
  refine wt_pck ?_
  refine br_t rfl ?_
  refine wt_ent0 0 1 2 1 (by omega) (by omega) (by omega) (by omega) (by omega) ?_
  refine br_t rfl ?_
  refine wt_val 9 (by omega) v9 ?_
  refine wt_pck ?_
  refine br_t rfl ?_
  refine wt_val 5 (by omega) v5 ?_
  refine br_t rfl ?_
  refine wt_dep (c := 1) (x := 2) (y := 546) (v := 2) (nm := wt_n2) (by omega) (by decide) g6 F.2.2.1 wt_v1 wt_c1 ?_
  refine br_t rfl ?_
  refine wt_dep (c := 5) (x := 32) (y := 544) (v := 1) (nm := wt_n2) (by omega) (by decide) g6 F.2.2.1 wt_v5 wt_c5 ?_
  refine br_t rfl ?_
  refine wt_in1 (n := 0) (by omega) rfl ?_
  refine wt_in0 (n := 0) (by omega) rfl ?_
  refine wt_tab (o := 9) (r := 5) (c := 1) (nm := wt_n2) (R := nI 1) (C := nI 1) (src := 34) (bo := 512) (up := 546) (dn := 550) (cone := 512) (by omega) (by omega) (by omega) (by omega) rfl rfl (by decide) (by decide) g6 F.2.2.1 wt_v34 wt_v9 (by decide) (fun r12 i12 => ⟨2, ?_⟩)
  refine pk_le 1 0 (fun z => absurd z (by omega)) (fun _ => ?_)
  refine wt_row (i := 0) (by omega) (by omega) (by omega) (by omega) (fun Q h => wt_sp34 F h) (fun u13 => ?_)
  refine pk_le 1 1 (fun _ => ?_) (fun z => absurd z (by omega))
  refine wt_214 (fun r5 i5 => ?_)
  have w1 : r5 1 = a := (i5 1 (by omega)).trans ((i12 1 (by omega)).trans v1)
  have w2 : r5 2 = b := (i5 2 (by omega)).trans ((i12 2 (by omega)).trans v2)
  have w5 : r5 5 = a + b := (i5 5 (by omega)).trans ((i12 5 (by omega)).trans v5)
  have w9 : r5 9 = wt_pc a (a + b) k := (i5 9 (by omega)).trans ((i12 9 (by omega)).trans v9)
  refine br_t (by decide) ?_
  refine wt_ent 0 0 1 1 (v := wt_pc t r k) (by omega) (by omega) (by omega) (by omega) rfl ?_
  refine br_c (fun z => ?_) (fun z => ?_)
  · exact wt_362 F w1 w2 w5 w9 rfl rfl (if_pos z)
  · exact wt_362 F w1 w2 w5 w9 rfl rfl (if_neg z)
theorem i_vc (xs : Nat → Int32) (L : Nat) (hL : L ≤ 6) : wpL_law (fun r => r = 1) L xs := by
  unfold wpL_law
  refine wt_cell 0 (by omega) hL (fun a => ?_)
  refine wt_cell 1 (by omega) hL (fun b => ?_)
  refine wt_cell 2 (by omega) hL (fun r => ?_)
  refine wt_cell 3 (by omega) hL (fun s => ?_)
  refine wt_cell 4 (by omega) hL (fun t => ?_)
  refine wt_cell 5 (by omega) hL (fun k => ?_)
  exact ⟨14, 403, by omega, by omega, wt_lawOf a b r s t k⟩
end
