section
/-- a Bool as the int that the code keeps -/
def nd_b (x : Bool) : Int32 := if x then 1 else 0
/-- two letters, four letters, as rows -/
def nd_f2 (a b : Nat) : Nat → Nat := fun i => if i = 0 then a else b
def nd_f4 (a b c d : Nat) : Nat → Nat := fun i => if i = 0 then a else if i = 1 then b else if i = 2 then c else d
/-- the documents: document k holds the N k letters T k -/
def nd_docs (N : Nat → Nat) (T : Nat → Nat → Nat) (a1 a2 : Nat → Int32) : Prop := ∀ k, k < 8 → N k ≤ 16 ∧ a1 k = nI (N k) ∧ ∀ i, i < N k → a2 (16 * k + i) = nI (T k i) ∧ T k i < 4
/-- the query: m letters s -/
def nd_qry (m : Nat) (s : Nat → Nat) (a4 : Nat → Int32) : Prop := m ≤ 8 ∧ ∀ i, i < m → a4 i = nI (s i) ∧ s i < 4
/-! the search by bits -/
def nd_mk (s : Nat → Nat) (l : Nat) : Nat → Int32
  | 0 => 0
  | i + 1 => if s i = l then nd_mk s l i ||| ((1 : Int32) <<< (nI i &&& 31)) else nd_mk s l i
def nd_z (e u : Int32) : Int32 := (((e &&& u) + u) ^^^ u) ||| e
def nd_ri (f e u d : Int32) : Int32 := (d ||| ((nd_z e u ||| u) ^^^ (-1))) &&& f
def nd_fa (e u : Int32) : Int32 := u &&& nd_z e u
def nd_ds (tp r fa : Int32) : Int32 := if r &&& tp = 0 then (if fa &&& tp = 0 then 0 else (-1)) else 1
def nd_up (f e d r fa : Int32) : Int32 := ((fa <<< ((1 : Int32) &&& 31)) ||| (((e ||| d) ||| (r <<< ((1 : Int32) &&& 31))) ^^^ (-1))) &&& f
def nd_dn (f e d r : Int32) : Int32 := ((r <<< ((1 : Int32) &&& 31)) &&& (e ||| d)) &&& f
def nd_go (f tp : Int32) (e : Nat → Int32) : Nat → Nat → Int32 → Int32 → Int32 → Int32 → Int32 → Int32 × Int32
  | 0, _, _, _, _, bd, be => (bd, be)
  | k + 1, i, u, d, sc, bd, be =>
    if bd ≤ sc + nd_ds tp (nd_ri f (e i) u d) (nd_fa (e i) u) then
      nd_go f tp e k (i + 1) (nd_up f (e i) d (nd_ri f (e i) u d) (nd_fa (e i) u)) (nd_dn f (e i) d (nd_ri f (e i) u d)) (sc + nd_ds tp (nd_ri f (e i) u d) (nd_fa (e i) u)) bd be
    else
      nd_go f tp e k (i + 1) (nd_up f (e i) d (nd_ri f (e i) u d) (nd_fa (e i) u)) (nd_dn f (e i) d (nd_ri f (e i) u d)) (sc + nd_ds tp (nd_ri f (e i) u d) (nd_fa (e i) u)) (sc + nd_ds tp (nd_ri f (e i) u d) (nd_fa (e i) u)) (nI (i + 1))
def nd_full (m : Nat) : Int32 := ((1 : Int32) <<< (nI m &&& 31)) - 1
def nd_top (m : Nat) : Int32 := (1 : Int32) <<< ((nI m - 1) &&& 31)
/-- the least distance, and where it ends -/
def nd_se (m : Nat) (s : Nat → Nat) (n : Nat) (t : Nat → Nat) : Int32 × Int32 :=
  if m = 0 then (nI m, 0) else nd_go (nd_full m) (nd_top m) (fun i => nd_mk s (t i) m) n 0 (nd_full m) 0 (nI m) (nI m) 0
/-! the band -/
def nd_mn (a b : Nat) : Nat := if a ≤ b then a else b
def nd_c0 (j w c : Nat) : Nat := if j ≤ w then c + 1 else 100
def nd_c1 (i j w c0 c1 n1 : Nat) (e : Bool) : Nat := if w + j < i then 100 else if j ≤ w + i then nd_mn (nd_mn (c0 + 1) (c1 + (if e then 0 else 1))) (n1 + 1) else 100
def nd_row (E : Nat → Bool) (w j : Nat) (pv : Nat → Nat) : Nat → Nat
  | 0 => nd_c0 j w (pv 0)
  | i + 1 => nd_c1 (i + 1) j w (pv (i + 1)) (pv i) (nd_row E w j pv i) (E i)
def nd_D (E : Nat → Nat → Bool) (w : Nat) : Nat → Nat → Nat
  | 0 => fun i => if w < i then 100 else i
  | j + 1 => nd_row (fun i => E i j) w (j + 1) (nd_D E w j)
def nd_wg (E : Nat → Nat → Bool) (m n : Nat) : Nat → Nat → Nat
  | 0, _ => nd_D E 32 n m
  | k + 1, w => if w < nd_D E w n m then nd_wg E m n k (w * 2) else nd_D E w n m
def nd_bw (m n : Nat) : Nat := if (n - m) + (m - n) = 0 then 1 else (n - m) + (m - n)
/-- the distance of two wholes of m and n letters -/
def nd_wd (E : Nat → Nat → Bool) (m n : Nat) : Nat := nd_wg E m n 6 (nd_bw m n)
theorem nd_row_le (E : Nat → Bool) (w j b : Nat) (pv : Nat → Nat) (hb : 100 ≤ b) (i : Nat) (h : pv i ≤ b) : nd_row E w j pv i ≤ b + 1 := by
  cases i with
  | zero => unfold nd_row nd_c0; split <;> omega
  | succ i =>
    have hm : ∀ x y : Nat, nd_mn x y ≤ x := fun x y => by unfold nd_mn; split <;> omega
    have h1 := hm (nd_mn (pv (i + 1) + 1) (pv i + (if E i then 0 else 1))) (nd_row E w j pv i + 1)
    have h2 := hm (pv (i + 1) + 1) (pv i + (if E i then 0 else 1))
    unfold nd_row nd_c1
    split
    · omega
    · split
      · omega
      · omega
theorem nd_D_le (E : Nat → Nat → Bool) (w j i : Nat) (hi : i ≤ 100) : nd_D E w j i ≤ 100 + j := by
  induction j with
  | zero => unfold nd_D; split <;> omega
  | succ j ih => exact nd_row_le _ w (j + 1) (100 + j) _ (by omega) i ih
/-! the distance depends on the letters only by which are equal -/
theorem nd_row_c {E E' : Nat → Bool} {w j m : Nat} {pv pv' : Nat → Nat} (hE : ∀ i, i < m → E i = E' i) (hp : ∀ i, i ≤ m → pv i = pv' i) : ∀ i, i ≤ m → nd_row E w j pv i = nd_row E' w j pv' i := by
  intro i
  induction i with
  | zero => intro h; unfold nd_row; rw [hp 0 h]
  | succ i ih => intro h; unfold nd_row; rw [hp (i + 1) h, hp i (by omega), ih (by omega), hE i (by omega)]
theorem nd_D_c {E E' : Nat → Nat → Bool} {w m n : Nat} (hE : ∀ i, i < m → ∀ j, j < n → E i j = E' i j) : ∀ j, j ≤ n → ∀ i, i ≤ m → nd_D E w j i = nd_D E' w j i := by
  intro j
  induction j with
  | zero => intro _ i _; rfl
  | succ j ih => intro h; exact nd_row_c (fun i hi => hE i hi j (by omega)) (ih (by omega))
theorem nd_wg_c {E E' : Nat → Nat → Bool} {m n : Nat} (hE : ∀ i, i < m → ∀ j, j < n → E i j = E' i j) : ∀ k w, nd_wg E m n k w = nd_wg E' m n k w := by
  have hD : ∀ w, nd_D E w n m = nd_D E' w n m := fun w => nd_D_c hE n (Nat.le_refl _) m (Nat.le_refl _)
  intro k
  induction k with
  | zero => intro w; exact hD 32
  | succ k ih => intro w; unfold nd_wg; rw [hD w, ih (w * 2)]
theorem nd_wd_c {E E' : Nat → Nat → Bool} {m n : Nat} (hE : ∀ i, i < m → ∀ j, j < n → E i j = E' i j) : nd_wd E m n = nd_wd E' m n := nd_wg_c hE 6 _
theorem nd_go_c {f tp : Int32} {e e' : Nat → Int32} {n : Nat} (he : ∀ i, i < n → e i = e' i) : ∀ k i u d sc bd be, i + k ≤ n → nd_go f tp e k i u d sc bd be = nd_go f tp e' k i u d sc bd be := by
  intro k
  induction k with
  | zero => intro i u d sc bd be _; rfl
  | succ k ih =>
    intro i u d sc bd be h
    unfold nd_go
    rw [he i (by omega), ih _ _ _ _ _ _ (by omega), ih _ _ _ _ _ _ (by omega)]
/-! shared pairs, the count of near documents, the nearest -/
def nd_wi (D : Nat → Nat) (M : Nat → Bool) (e : Nat) : Nat → Nat
  | 0 => 0
  | k + 1 => nd_wi D M e k + (if M k && decide (D k ≤ e) then 1 else 0)
def nd_nr (D : Nat → Nat) (M : Nat → Nat → Bool) : Nat → Nat × Nat
  | 0 => (0, D 0)
  | k + 1 => if M (k + 1) (nd_nr D M k).2 && decide (D (k + 1) < (nd_nr D M k).2) then (k + 1, D (k + 1)) else nd_nr D M k
end
section
/-! the plain law: what the class computes for four letters a b c d and two letters p q, by the eight bits 'x is p', 'x is q' -/
def nd_bo (A0 A1 A2 B1 B2 B3 : Bool) : Bool := (A0 && B1) || (A1 && B2) || (A2 && B3)
def nd_an (A0 A1 A2 A3 B0 B1 B2 B3 : Bool) : Bool := (A0 || B0) || (A1 || B1) || (A2 || B2) || (A3 || B3)
def nd_di (bo an : Bool) : Nat := if bo then 0 else if an then 1 else 2
def nd_en (one two bo wa wb wc wd : Bool) : Nat := if bo then (if one then 2 else if two then 3 else 4) else if wa then 1 else if wb then 2 else if wc then 3 else if wd then 4 else 0
def nd_or (A0 A1 A2 B1 B2 B3 : Bool) : Bool := (A0 && (B1 || B2 || B3)) || (A1 && (B2 || B3)) || (A2 && B3)
def nd_si (A0 A1 A2 B1 B2 B3 : Bool) : Bool := A0 || A1 || A2 || B1 || B2 || B3
def nd_wh (od si : Bool) : Nat := if od then 2 else if si then 3 else 4
def nd_em (x y : Bool) : Int32 := (if x then 1 else 0) ||| (if y then 2 else 0)
def nd_e4 (A0 A1 A2 A3 B0 B1 B2 B3 : Bool) : Nat → Int32 := fun i => if i = 0 then nd_em A0 B0 else if i = 1 then nd_em A1 B1 else if i = 2 then nd_em A2 B2 else nd_em A3 B3
def nd_E4 (A0 A1 A2 A3 B0 B1 B2 B3 : Bool) : Nat → Nat → Bool := fun i j => if i = 0 then (if j = 0 then A0 else if j = 1 then A1 else if j = 2 then A2 else A3) else (if j = 0 then B0 else if j = 1 then B1 else if j = 2 then B2 else B3)
theorem nd_l_go : ∀ A0 A1 A2 A3 B0 B1 B2 B3 : Bool, nd_go (nd_full 2) (nd_top 2) (nd_e4 A0 A1 A2 A3 B0 B1 B2 B3) 4 0 (nd_full 2) 0 (nI 2) (nI 2) 0 = (nI (nd_di (nd_bo A0 A1 A2 B1 B2 B3) (nd_an A0 A1 A2 A3 B0 B1 B2 B3)), nI (nd_en (A0 && B1) (A1 && B2) (nd_bo A0 A1 A2 B1 B2 B3) (A0 || B0) (A1 || B1) (A2 || B2) (A3 || B3))) := by decide +kernel
theorem nd_l_go2 : ∀ x : Bool, (nd_go (nd_full 2) (nd_top 2) (fun i => if i = 0 then nd_em x true else nd_em true x) 2 0 (nd_full 2) 0 (nI 2) (nI 2) 0).1 = nI (if x then 0 else 1) := by decide +kernel
theorem nd_l_wd : ∀ A0 A1 A2 A3 B0 B1 B2 B3 : Bool, nd_wd (nd_E4 A0 A1 A2 A3 B0 B1 B2 B3) 2 4 = nd_wh (nd_or A0 A1 A2 B1 B2 B3) (nd_si A0 A1 A2 B1 B2 B3) := by decide +kernel
theorem nd_l_sy : ∀ A0 A1 A2 A3 B0 B1 B2 B3 : Bool, nd_wd (nd_E4 A0 A1 A2 A3 B0 B1 B2 B3) 2 4 = nd_wd (fun i j => nd_E4 A0 A1 A2 A3 B0 B1 B2 B3 j i) 4 2 := by decide +kernel
theorem nd_l_w2 : ∀ x : Bool, nd_wd (fun i j => if i = j then x else true) 2 2 = if x then 0 else 2 := by decide +kernel
theorem nd_l_w20 : nd_wd (fun _ _ => true) 2 0 = 2 := by decide +kernel
theorem nd_l_w02 : nd_wd (fun _ _ => true) 0 2 = 2 := by decide +kernel
theorem nd_l_nr : ∀ bo an : Bool, (bo = true → an = true) → (nd_nr (fun k => if k = 6 then nd_di bo an else 2) (fun k l => if l = 0 then false else if l = 1 then (decide (k = 6) && bo) else true) 7).1 = if an then 6 else 0 := by decide +kernel
theorem nd_l_nr0 : (nd_nr (fun _ => 0) (fun _ _ => false) 7).1 = 0 := by decide +kernel
theorem nd_l_wi0 : ∀ bo an : Bool, nd_wi (fun k => if k = 6 then nd_di bo an else 2) (fun k => decide (k = 6) && bo) 0 8 = if bo then 1 else 0 := by decide +kernel
theorem nd_l_wi1 : ∀ bo an : Bool, (bo = true → an = true) → nd_wi (fun k => if k = 6 then nd_di bo an else 2) (fun _ => true) 1 8 = if an then 1 else 0 := by decide +kernel
theorem nd_l_wi2 : ∀ bo an : Bool, nd_wi (fun k => if k = 6 then nd_di bo an else 2) (fun _ => true) 2 8 = 8 := by decide +kernel
theorem nd_l_ba : ∀ A0 A1 A2 A3 B0 B1 B2 B3 : Bool, nd_bo A0 A1 A2 B1 B2 B3 = true → nd_an A0 A1 A2 A3 B0 B1 B2 B3 = true := by decide +kernel
end
section
section
variable {post : St2 → Prop} {ql bd be xl yl : Int32} {a1 a2 a3 a4 a5 a6 a7 a8 a9 a10 : Nat → Int32}
theorem nd_ix (k i : Nat) : (16 : Int32) * nI k + nI i = nI (16 * k + i) := by
  rw [show (16 : Int32) = nI 16 from rfl, pk_mul, nI_add]
theorem nd_s206 {J : Int32 → Int32 → Int32 → Int32 → Int32 → Int32 → Prop} {x1 f tp x9 x11 x12 z sc : Int32} {i : Nat}
    (H : J (((x12 <<< ((1 : Int32) &&& 31)) ||| ((x9 ||| (x11 <<< ((1 : Int32) &&& 31))) ^^^ (-1))) &&& f) (((x11 <<< ((1 : Int32) &&& 31)) &&& x9) &&& f) (sc + z) (nI (i + 1)) (if bd ≤ sc + z then bd else sc + z) (if bd ≤ sc + z then be else nI (i + 1))) :
    wX_search_206 post J x1 f tp (nI i) x9 x11 x12 z sc ql bd be xl yl a1 a2 a3 a4 a5 a6 a7 a8 a9 a10 := by
  unfold wX_search_206
  refine nm_e (nm_e (nm_e (nm_e (nm_e ?_))))
  refine br_c (fun c => nm_r (nI_1 i) ?_) (fun c => nm_r (nI_1 i) (nm_r (nI_1 i) ?_))
  · rw [if_pos c, if_pos c] at H
    exact H
  · rw [if_neg c, if_neg c] at H
    exact H
theorem nd_s107 {f tp : Int32} {k n : Nat} {t : Nat → Nat} {e : Nat → Int32} (hk : k < 8) (hn : n ≤ 16) (h1 : a1 k = nI n) (h2 : ∀ i, i < n → a2 (16 * k + i) = nI (t i) ∧ t i < 4) (h6 : ∀ l, l < 4 → a6 l = e l) :
    ∀ r i u d sc bd be fu, i + r = n → r < fu → post (ql, (nd_go f tp (fun i => e (t i)) r i u d sc bd be).1, (nd_go f tp (fun i => e (t i)) r i u d sc bd be).2, xl, yl, a1, a2, a3, a4, a5, a6, a7, a8, a9, a10) →
      wX_search_107 post (nI k) f tp ql xl yl a1 a2 a3 a4 a5 a6 a7 a8 a9 a10 fu u d sc (nI i) bd be := by
  intro r
  induction r with
  | zero =>
    intro i u d sc bd be fu hi hf hp
    obtain ⟨g, rfl⟩ : ∃ g, fu = g + 1 := ⟨fu - 1, by omega⟩
    unfold wX_search_107
    rw [nI_clamp (show k < 2 ^ 31 by omega), h1]
    exact ⟨pk_in k 8 hk, pk_le n i (fun _ => hp) (fun z => absurd z (by omega))⟩
  | succ r ih =>
    intro i u d sc bd be fu hi hf hp
    obtain ⟨g, rfl⟩ : ∃ g, fu = g + 1 := ⟨fu - 1, by omega⟩
    obtain ⟨e2, e3⟩ := h2 i (by omega)
    have e6 := h6 (t i) e3
    unfold wX_search_107
    rw [nI_clamp (show k < 2 ^ 31 by omega), h1, nd_ix, nI_clamp (show 16 * k + i < 2 ^ 31 by omega), e2, nI_clamp (show t i < 2 ^ 31 by omega), e6]
    refine ⟨pk_in k 8 hk, pk_le n i (fun z => absurd z (by omega)) (fun _ => ⟨pk_in (16 * k + i) 128 (by omega), pk_in (t i) 4 e3, nm_e (nm_e (nm_e (nm_e (nm_e ?_))))⟩)⟩
    have key : ∀ z, z = nd_ds tp (nd_ri f (e (t i)) u d) (nd_fa (e (t i)) u) → wX_search_206 post (wX_search_107 post (nI k) f tp ql xl yl a1 a2 a3 a4 a5 a6 a7 a8 a9 a10 g) (nI k) f tp (nI i) (e (t i) ||| d) (nd_ri f (e (t i)) u d) (nd_fa (e (t i)) u) z sc ql bd be xl yl a1 a2 a3 a4 a5 a6 a7 a8 a9 a10 := by
      intro z hz
      refine nd_s206 (ih _ _ _ _ _ _ _ (by omega) (by omega) ?_)
      rw [hz]
      rw [nd_go] at hp
      by_cases c : bd ≤ sc + nd_ds tp (nd_ri f (e (t i)) u d) (nd_fa (e (t i)) u)
      · rw [if_pos c] at hp
        rw [if_pos c, if_pos c]
        exact hp
      · rw [if_neg c] at hp
        rw [if_neg c, if_neg c]
        exact hp
    have k0 : ∀ R F : Int32, R &&& tp = 0 → F &&& tp = 0 → 0 = nd_ds tp R F := fun R F c1 c2 => by unfold nd_ds; rw [if_pos c1, if_pos c2]
    have k1 : ∀ R F : Int32, R &&& tp = 0 → ¬ F &&& tp = 0 → -1 = nd_ds tp R F := fun R F c1 c2 => by unfold nd_ds; rw [if_pos c1, if_neg c2]
    have k2 : ∀ R F : Int32, ¬ R &&& tp = 0 → 1 = nd_ds tp R F := fun R F c1 => by unfold nd_ds; rw [if_neg c1]
    exact br_c (fun c1 => br_c (fun c2 => key 0 (k0 _ _ c1 c2)) (fun c2 => key (-1) (k1 _ _ c1 c2))) (fun c1 => key 1 (k2 _ _ c1))
theorem nd_s22 {k m n : Nat} {s t : Nat → Nat} (hk : k < 8) (hn : n ≤ 16) (h1 : a1 k = nI n) (h2 : ∀ i, i < n → a2 (16 * k + i) = nI (t i) ∧ t i < 4) (hq : nd_qry m s a4) (h6 : ∀ l, l < 4 → a6 l = 0)
    (H : ∀ b6, post (nI m, (nd_se m s n t).1, (nd_se m s n t).2, xl, yl, a1, a2, a3, a4, a5, b6, a7, a8, a9, a10)) :
    ∃ fu, wX_search_22 post (nI k) (nI m) bd be xl yl fu 0 a1 a2 a3 a4 a5 a6 a7 a8 a9 a10 := by
  obtain ⟨hm, hs⟩ := hq
  refine pk_loop (fun fu i b6 => wX_search_22 post (nI k) (nI m) bd be xl yl fu (nI i) a1 a2 a3 a4 a5 b6 a7 a8 a9 a10) (fun i b6 => ∀ l, l < 4 → b6 l = nd_mk s l i) m 0 a6 (by omega) (fun l hl => h6 l hl) ?_ ?_
  · intro fu b6 h
    show wX_search_22 post (nI k) (nI m) bd be xl yl (fu + 1) (nI m) a1 a2 a3 a4 a5 b6 a7 a8 a9 a10
    unfold wX_search_22
    refine pk_le m m (fun _ => pk_eq m 0 (fun z => ?_) (fun z => nm_e (nm_e ⟨n + 1, ?_⟩))) (fun z => absurd z (by omega))
    · have H' := H b6
      unfold nd_se at H'
      rw [if_pos z] at H'
      exact H'
    · refine nd_s107 (e := fun l => nd_mk s l m) hk hn h1 h2 h n 0 _ _ _ _ _ _ (by omega) (by omega) ?_
      have H' := H b6
      unfold nd_se at H'
      rw [if_neg z] at H'
      exact H'
  · intro fu i b6 hi h hw
    obtain ⟨e4, e5⟩ := hs i hi
    show wX_search_22 post (nI k) (nI m) bd be xl yl (fu + 1) (nI i) a1 a2 a3 a4 a5 b6 a7 a8 a9 a10
    unfold wX_search_22
    rw [nI_clamp (show i < 2 ^ 31 by omega), e4, nI_clamp (show s i < 2 ^ 31 by omega)]
    refine pk_le m i (fun z => absurd z (by omega)) (fun _ => ⟨pk_in i 8 (by omega), pk_in (s i) 4 e5, pk_in (s i) 4 e5, nm_e (nm_r (nI_1 i) (hw _ (fun l hl => ?_)))⟩)
    unfold nd_mk
    by_cases c : l = s i
    · rw [c, pk_us, if_pos rfl, h (s i) e5]
    · rw [pk_un c, if_neg (fun z => c z.symm), h l hl]
theorem nd_search {k m n : Nat} {s t : Nat → Nat} (hk : k < 8) (hn : n ≤ 16) (h1 : a1 k = nI n) (h2 : ∀ i, i < n → a2 (16 * k + i) = nI (t i) ∧ t i < 4) (hq : nd_qry m s a4)
    (H : ∀ b6, post (nI m, (nd_se m s n t).1, (nd_se m s n t).2, xl, yl, a1, a2, a3, a4, a5, b6, a7, a8, a9, a10)) :
    wpX_search post (nI m, bd, be, xl, yl, a1, a2, a3, a4, a5, a6, a7, a8, a9, a10) (nI k) := by
  unfold wpX_search
  refine pk_loop (fun fu i b6 => wX_search_2 post (nI k) (nI m) bd be xl yl fu (nI i) a1 a2 a3 a4 a5 b6 a7 a8 a9 a10) (fun i b6 => ∀ l, l < i → b6 l = 0) 4 0 a6 (by omega) (fun l hl => absurd hl (by omega)) ?_ ?_
  · intro fu b6 h
    show wX_search_2 post (nI k) (nI m) bd be xl yl (fu + 1) (nI 4) a1 a2 a3 a4 a5 b6 a7 a8 a9 a10
    unfold wX_search_2
    exact pk_le 4 4 (fun _ => nd_s22 hk hn h1 h2 hq h H) (fun z => absurd z (by omega))
  · intro fu i b6 hi h hw
    show wX_search_2 post (nI k) (nI m) bd be xl yl (fu + 1) (nI i) a1 a2 a3 a4 a5 b6 a7 a8 a9 a10
    unfold wX_search_2
    rw [nI_clamp (show i < 2 ^ 31 by omega)]
    refine pk_le 4 i (fun z => absurd z (by omega)) (fun _ => ⟨pk_in i 4 (by omega), nm_e (nm_r (nI_1 i) (hw _ (fun l hl => ?_)))⟩)
    by_cases c : l = i
    · rw [c, pk_us]
    · rw [pk_un c]
      exact h l (by omega)
end
section
variable {post : Int32 → St2 → Prop} {ql bd be xl yl : Int32} {a1 a2 a3 a4 a5 a6 a7 a8 a9 a10 : Nat → Int32}
theorem nd_isDoc {P : Int32 → Prop} {k : Nat} (hk : k < 8) (H : P 1) : wpX_isDoc P () (nI k) :=
  pk_lt k 0 (fun z => absurd z (by omega)) (fun _ => pk_lt 7 k (fun z => absurd z (by omega)) (fun _ => H))
theorem nd_distance {N : Nat → Nat} {T : Nat → Nat → Nat} {k m : Nat} {s : Nat → Nat} (hk : k < 8) (hd : nd_docs N T a1 a2) (hq : nd_qry m s a4)
    (H : ∀ be b6, post (nd_se m s (N k) (T k)).1 (nI m, (nd_se m s (N k) (T k)).1, be, xl, yl, a1, a2, a3, a4, a5, b6, a7, a8, a9, a10)) :
    wpX_distance post (nI m, bd, be, xl, yl, a1, a2, a3, a4, a5, a6, a7, a8, a9, a10) (nI k) := by
  unfold wpX_distance
  refine nd_isDoc hk (br_f (by decide) ?_)
  obtain ⟨h0, h1, h2⟩ := hd k hk
  exact nd_search hk h0 h1 h2 hq (fun b6 => H _ b6)
theorem nd_end {N : Nat → Nat} {T : Nat → Nat → Nat} {k m : Nat} {s : Nat → Nat} (hk : k < 8) (hd : nd_docs N T a1 a2) (hq : nd_qry m s a4)
    (H : ∀ bd b6, post (nd_se m s (N k) (T k)).2 (nI m, bd, (nd_se m s (N k) (T k)).2, xl, yl, a1, a2, a3, a4, a5, b6, a7, a8, a9, a10)) :
    wpX_end post (nI m, bd, be, xl, yl, a1, a2, a3, a4, a5, a6, a7, a8, a9, a10) (nI k) := by
  unfold wpX_end
  refine nd_isDoc hk (br_f (by decide) ?_)
  obtain ⟨h0, h1, h2⟩ := hd k hk
  exact nd_search hk h0 h1 h2 hq (fun b6 => H _ b6)
end
end
section
theorem nd_lt_sub {w i j : Nat} (hw : w < 2 ^ 30) (hi : i < 2 ^ 30) (hj : j < 2 ^ 30) : nI w < nI i - nI j ↔ w + j < i := by
  rw [Int32.lt_iff_toInt_lt, nI_toInt (by omega), pk_sub_toInt hi hj]
  omega
theorem nd_sub_le {w i j : Nat} (hw : w < 2 ^ 30) (hi : i < 2 ^ 30) (hj : j < 2 ^ 30) : nI j - nI i ≤ nI w ↔ j ≤ w + i := by
  rw [Int32.le_iff_toInt_le, nI_toInt (by omega), pk_sub_toInt hj hi]
  omega
section
variable {ql bd be xl yl : Int32} {a1 a2 a3 a4 a5 a6 a7 a8 a9 a10 : Nat → Int32}
theorem nd_cell0 {P : Int32 → Prop} {j w c : Nat} (hj : j ≤ 16) (hw : w ≤ 1024) (hc : c ≤ 1000) (h9 : a9 0 = nI c) (H : P (nI (nd_c0 j w c))) :
    wpX_cell P (ql, bd, be, xl, yl, a1, a2, a3, a4, a5, a6, a7, a8, a9, a10) (nI 0) (nI j) (nI w) := by
  unfold nd_c0 at H
  unfold wpX_cell
  refine ek_if (nd_lt_sub (by omega) (by omega) (by omega)) (fun z => absurd z (by omega)) (fun _ => ek_if (nd_sub_le (by omega) (by omega) (by omega)) (fun z => ?_) (fun z => ?_))
  · rw [if_pos (by omega)] at H
    rw [nI_clamp (show 0 < 2 ^ 31 by omega), h9]
    exact ⟨pk_in 0 17 (by omega), nm_r (nI_1 c) (pk_le 0 0 (fun _ => H) (fun z => absurd z (by omega)))⟩
  · rw [if_neg (by omega)] at H
    exact H
theorem nd_mnW {P : Int32 → Prop} {a b : Nat} (ha : a < 2 ^ 31) (hb : b < 2 ^ 31) (H : P (nI (nd_mn a b))) : wX_cell_92 P (nI b) (nI a) ql bd be xl yl a1 a2 a3 a4 a5 a6 a7 a8 a9 a10 := by
  unfold nd_mn at H
  unfold wX_cell_92
  refine pk_le a b (fun z => ?_) (fun z => ?_) rfl rfl ha hb
  · rw [if_pos z] at H
    exact H
  · rw [if_neg (by omega)] at H
    exact H
theorem nd_cell1 {P : Int32 → Prop} {i j w c0 c1 n1 : Nat} {e : Bool} (hi : i < 16) (hj : j < 16) (hw : w ≤ 1024) (hc0 : c0 ≤ 1000) (hc1 : c1 ≤ 1000) (hn1 : n1 ≤ 1000)
    (h9 : a9 (i + 1) = nI c0) (h9' : a9 i = nI c1) (h10 : a10 i = nI n1) (he : a7 i = a8 j ↔ e = true) (H : P (nI (nd_c1 (i + 1) (j + 1) w c0 c1 n1 e))) :
    wpX_cell P (ql, bd, be, xl, yl, a1, a2, a3, a4, a5, a6, a7, a8, a9, a10) (nI (i + 1)) (nI (j + 1)) (nI w) := by
  unfold nd_c1 at H
  unfold wpX_cell
  refine ek_if (nd_lt_sub (by omega) (by omega) (by omega)) (fun z => ?_) (fun z => ek_if (nd_sub_le (by omega) (by omega) (by omega)) (fun z2 => ?_) (fun z2 => ?_))
  · rw [if_pos z] at H
    exact H
  · rw [if_neg z, if_pos z2] at H
    rw [nI_pred, nI_pred, nI_clamp (show i < 2 ^ 31 by omega), nI_clamp (show j < 2 ^ 31 by omega), nI_clamp (show i + 1 < 2 ^ 31 by omega), h9, h9']
    refine ⟨pk_in (i + 1) 17 (by omega), nm_r (nI_1 c0) (pk_le (i + 1) 0 (fun z => absurd z (by omega)) (fun _ => ⟨pk_in i 17 (by omega), pk_in i 16 (by omega), pk_in j 16 (by omega), ?_⟩))⟩
    have key : ∀ v : Nat, v ≤ 1 → v = (if e then 0 else 1) → wX_cell_63 P (nI (i + 1)) (nI (c0 + 1)) (nI v) (nI c1) ql bd be xl yl a1 a2 a3 a4 a5 a6 a7 a8 a9 a10 := by
      intro v hv ev
      rw [← ev] at H
      unfold wX_cell_63
      rw [nI_pred, nI_clamp (show i < 2 ^ 31 by omega), h10]
      refine nm_r (nI_add c1 v) ⟨pk_in i 17 (by omega), nm_r (nI_1 n1) (pk_le (c0 + 1) (c1 + v) (fun z => nd_mnW (by omega) (by omega) ?_) (fun z => nd_mnW (by omega) (by omega) ?_))⟩
      · have t : nd_mn (c0 + 1) (c1 + v) = c0 + 1 := by unfold nd_mn; rw [if_pos z]
        rw [t] at H
        exact H
      · have t : nd_mn (c0 + 1) (c1 + v) = c1 + v := by unfold nd_mn; rw [if_neg (by omega)]
        rw [t] at H
        exact H
    exact br_c (fun g => key 0 (by omega) (by rw [if_pos (he.mp g)])) (fun g => key 1 (by omega) (by rw [if_neg (fun z => g (he.mpr z))]))
  · rw [if_neg z, if_neg z2] at H
    exact H
end
section
variable {post : Int32 → St2 → Prop} {ql bd be xl yl : Int32} {a1 a2 a3 a4 a5 a6 a7 a8 a9 a10 : Nat → Int32}
theorem nd_b74 {J : Int32 → (Nat → Int32) → (Nat → Int32) → (Nat → Int32) → (Nat → Int32) → (Nat → Int32) → (Nat → Int32) → (Nat → Int32) → (Nat → Int32) → (Nat → Int32) → (Nat → Int32) → Prop} {x1 : Int32} {j m : Nat} (hm : m ≤ 16)
    (H : ∀ b9, (∀ i, i ≤ m → b9 i = a10 i) → J (nI (j + 1)) a1 a2 a3 a4 a5 a6 a7 a8 b9 a10) :
    ∃ fu, wX_bandDistance_74 post J x1 (nI j) ql bd be (nI m) yl fu 0 a1 a2 a3 a4 a5 a6 a7 a8 a9 a10 := by
  refine pk_loop (fun fu i b9 => wX_bandDistance_74 post J x1 (nI j) ql bd be (nI m) yl fu (nI i) a1 a2 a3 a4 a5 a6 a7 a8 b9 a10) (fun i b9 => ∀ l, l < i → b9 l = a10 l) (m + 1) 0 a9 (by omega) (fun l hl => absurd hl (by omega)) ?_ ?_
  · intro fu b9 h
    show wX_bandDistance_74 post J x1 (nI j) ql bd be (nI m) yl (fu + 1) (nI (m + 1)) a1 a2 a3 a4 a5 a6 a7 a8 b9 a10
    unfold wX_bandDistance_74
    exact pk_lt m (m + 1) (fun _ => nm_r (nI_1 j) (H b9 (fun i hi => h i (by omega)))) (fun z => absurd z (by omega))
  · intro fu i b9 hi h hw
    show wX_bandDistance_74 post J x1 (nI j) ql bd be (nI m) yl (fu + 1) (nI i) a1 a2 a3 a4 a5 a6 a7 a8 b9 a10
    unfold wX_bandDistance_74
    rw [nI_clamp (show i < 2 ^ 31 by omega)]
    refine pk_lt m i (fun z => absurd z (by omega)) (fun _ => ⟨pk_in i 17 (by omega), pk_in i 17 (by omega), nm_e (nm_r (nI_1 i) (hw _ (fun l hl => ?_)))⟩)
    by_cases c : l = i
    · rw [c, pk_us]
    · rw [pk_un c]
      exact h l (by omega)
theorem nd_b45 {J : Int32 → (Nat → Int32) → (Nat → Int32) → (Nat → Int32) → (Nat → Int32) → (Nat → Int32) → (Nat → Int32) → (Nat → Int32) → (Nat → Int32) → (Nat → Int32) → (Nat → Int32) → Prop} {w j m : Nat} {E : Nat → Bool} {pv : Nat → Nat} (hm : m ≤ 16) (hj : j < 16) (hw : w ≤ 1024)
    (hp : ∀ i, i ≤ m → a9 i = nI (pv i) ∧ pv i ≤ 900) (hr : ∀ i, i ≤ m → nd_row E w (j + 1) pv i ≤ 900) (hE : ∀ i, i < m → (a7 i = a8 j ↔ E i = true))
    (H : ∀ b9 b10, (∀ i, i ≤ m → b9 i = nI (nd_row E w (j + 1) pv i)) → J (nI (j + 1 + 1)) a1 a2 a3 a4 a5 a6 a7 a8 b9 b10) :
    ∃ fu, wX_bandDistance_45 post J (nI w) (nI (j + 1)) ql bd be (nI m) yl fu 0 a1 a2 a3 a4 a5 a6 a7 a8 a9 a10 := by
  refine pk_loop (fun fu i b10 => wX_bandDistance_45 post J (nI w) (nI (j + 1)) ql bd be (nI m) yl fu (nI i) a1 a2 a3 a4 a5 a6 a7 a8 a9 b10) (fun i b10 => ∀ l, l < i → b10 l = nI (nd_row E w (j + 1) pv l)) (m + 1) 0 a10 (by omega) (fun l hl => absurd hl (by omega)) ?_ ?_
  · intro fu b10 h
    show wX_bandDistance_45 post J (nI w) (nI (j + 1)) ql bd be (nI m) yl (fu + 1) (nI (m + 1)) a1 a2 a3 a4 a5 a6 a7 a8 a9 b10
    unfold wX_bandDistance_45
    exact pk_lt m (m + 1) (fun _ => nd_b74 hm (fun b9 h9 => H b9 b10 (fun i hi => by rw [h9 i hi, h i (by omega)]))) (fun z => absurd z (by omega))
  · intro fu i b10 hi h hs
    show wX_bandDistance_45 post J (nI w) (nI (j + 1)) ql bd be (nI m) yl (fu + 1) (nI i) a1 a2 a3 a4 a5 a6 a7 a8 a9 b10
    have step : ∀ r, r = nI (nd_row E w (j + 1) pv i) → (vp_in (nI i) 17 ∧ ∀ b, b = upd b10 (nI i).toNatClampNeg r → ∀ x, x = nI i + 1 → wX_bandDistance_45 post J (nI w) (nI (j + 1)) ql bd be (nI m) yl fu x a1 a2 a3 a4 a5 a6 a7 a8 a9 b) := by
      intro r er
      rw [nI_clamp (show i < 2 ^ 31 by omega)]
      refine ⟨pk_in i 17 (by omega), nm_e (nm_r (nI_1 i) (hs _ (fun l hl => ?_)))⟩
      by_cases c : l = i
      · rw [c, pk_us, er]
      · rw [pk_un c]
        exact h l (by omega)
    unfold wX_bandDistance_45
    refine pk_lt m i (fun z => absurd z (by omega)) (fun _ => ?_)
    cases i with
    | zero => exact nd_cell0 (c := pv 0) (by omega) hw (by have := (hp 0 (by omega)).2; omega) (hp 0 (by omega)).1 (step _ rfl)
    | succ i =>
      have q1 := hp (i + 1) (by omega)
      have q2 := hp i (by omega)
      have q3 := hr i (by omega)
      exact nd_cell1 (c0 := pv (i + 1)) (c1 := pv i) (n1 := nd_row E w (j + 1) pv i) (e := E i) (by omega) hj hw (by omega) (by omega) (by omega) q1.1 q2.1 (h i (by omega)) (hE i (by omega)) (step _ rfl)
theorem nd_b35 {w m n : Nat} {E : Nat → Nat → Bool} (hm : m ≤ 16) (hn : n ≤ 16) (hw : w ≤ 1024) (hE : ∀ i, i < m → ∀ j, j < n → (a7 i = a8 j ↔ E i j = true)) (h0 : ∀ i, i ≤ m → a9 i = nI (nd_D E w 0 i))
    (H : ∀ b9 b10, post (nI (nd_D E w n m)) (ql, bd, be, nI m, nI n, a1, a2, a3, a4, a5, a6, a7, a8, b9, b10)) :
    ∃ fu, wX_bandDistance_35 post (nI w) ql bd be (nI m) (nI n) fu 1 a1 a2 a3 a4 a5 a6 a7 a8 a9 a10 := by
  refine pk_loop (fun fu j (s : (Nat → Int32) × (Nat → Int32)) => wX_bandDistance_35 post (nI w) ql bd be (nI m) (nI n) fu (nI (j + 1)) a1 a2 a3 a4 a5 a6 a7 a8 s.1 s.2) (fun j s => ∀ i, i ≤ m → s.1 i = nI (nd_D E w j i)) n 0 (a9, a10) (by omega) h0 ?_ ?_
  · intro fu s h
    show wX_bandDistance_35 post (nI w) ql bd be (nI m) (nI n) (fu + 1) (nI (n + 1)) a1 a2 a3 a4 a5 a6 a7 a8 s.1 s.2
    unfold wX_bandDistance_35
    rw [nI_clamp (show m < 2 ^ 31 by omega), h m (Nat.le_refl _)]
    exact pk_lt n (n + 1) (fun _ => ⟨pk_in m 17 (by omega), H s.1 s.2⟩) (fun z => absurd z (by omega))
  · intro fu j s hj h hs
    show wX_bandDistance_35 post (nI w) ql bd be (nI m) (nI n) (fu + 1) (nI (j + 1)) a1 a2 a3 a4 a5 a6 a7 a8 s.1 s.2
    unfold wX_bandDistance_35
    refine pk_lt n (j + 1) (fun z => absurd z (by omega)) (fun _ => ?_)
    refine nd_b45 (E := fun i => E i j) (pv := nd_D E w j) hm (by omega) hw (fun i hi => ⟨h i hi, ?_⟩) (fun i hi => ?_) (fun i hi => hE i hi j hj) (fun b9 b10 h9 => hs (b9, b10) h9)
    · have := nd_D_le E w j i (by omega)
      omega
    · have := nd_row_le (fun i => E i j) w (j + 1) (100 + j) (nd_D E w j) (by omega) i (nd_D_le E w j i (by omega))
      omega
theorem nd_band {w m n : Nat} {E : Nat → Nat → Bool} (hm : m ≤ 16) (hn : n ≤ 16) (hw : w ≤ 1024) (hE : ∀ i, i < m → ∀ j, j < n → (a7 i = a8 j ↔ E i j = true))
    (H : ∀ b9 b10, post (nI (nd_D E w n m)) (ql, bd, be, nI m, nI n, a1, a2, a3, a4, a5, a6, a7, a8, b9, b10)) :
    wpX_bandDistance post (ql, bd, be, nI m, nI n, a1, a2, a3, a4, a5, a6, a7, a8, a9, a10) (nI w) := by
  unfold wpX_bandDistance
  refine pk_loop (fun fu i b9 => wX_bandDistance_2 post (nI w) ql bd be (nI m) (nI n) fu (nI i) a1 a2 a3 a4 a5 a6 a7 a8 b9 a10) (fun i b9 => ∀ l, l < i → b9 l = nI (nd_D E w 0 l)) (m + 1) 0 a9 (by omega) (fun l hl => absurd hl (by omega)) ?_ ?_
  · intro fu b9 h
    show wX_bandDistance_2 post (nI w) ql bd be (nI m) (nI n) (fu + 1) (nI (m + 1)) a1 a2 a3 a4 a5 a6 a7 a8 b9 a10
    unfold wX_bandDistance_2
    exact pk_lt m (m + 1) (fun _ => nd_b35 hm hn hw hE (fun i hi => h i (by omega)) H) (fun z => absurd z (by omega))
  · intro fu i b9 hi h hs
    show wX_bandDistance_2 post (nI w) ql bd be (nI m) (nI n) (fu + 1) (nI i) a1 a2 a3 a4 a5 a6 a7 a8 b9 a10
    unfold wX_bandDistance_2
    rw [nI_clamp (show i < 2 ^ 31 by omega)]
    have key : ∀ v, v = nI (nd_D E w 0 i) → ∀ l, l < i + 1 → upd b9 i v l = nI (nd_D E w 0 l) := by
      intro v ev l hl
      by_cases c : l = i
      · rw [c, pk_us, ev]
      · rw [pk_un c]
        exact h l (by omega)
    refine pk_lt m i (fun z => absurd z (by omega)) (fun _ => pk_lt w i (fun z => ⟨pk_in i 17 (by omega), nm_e (nm_r (nI_1 i) (hs _ (key 100 ?_)))⟩) (fun z => ⟨pk_in i 17 (by omega), nm_e (nm_r (nI_1 i) (hs _ (key (nI i) ?_)))⟩))
    · unfold nd_D
      rw [if_pos z]
      rfl
    · unfold nd_D
      rw [if_neg (by omega)]
theorem nd_w45 {m n : Nat} {E : Nat → Nat → Bool} (hm : m ≤ 16) (hn : n ≤ 16) (hE : ∀ i, i < m → ∀ j, j < n → (a7 i = a8 j ↔ E i j = true)) :
    ∀ k r w b9 b10 fu, r + k = 6 → w ≤ 16 * 2 ^ r → k < fu → (∀ b9 b10, post (nI (nd_wg E m n k w)) (ql, bd, be, nI m, nI n, a1, a2, a3, a4, a5, a6, a7, a8, b9, b10)) →
      wX_wholeDistance_45 post fu (nI w) (nI r) ql bd be (nI m) (nI n) a1 a2 a3 a4 a5 a6 a7 a8 b9 b10 := by
  intro k
  induction k with
  | zero =>
    intro r w b9 b10 fu hr hw hf H
    obtain ⟨g, rfl⟩ : ∃ g, fu = g + 1 := ⟨fu - 1, by omega⟩
    unfold wX_wholeDistance_45
    refine pk_le 6 r (fun _ => ?_) (fun z => absurd z (by omega))
    exact nd_band (w := 32) hm hn (by omega) hE H
  | succ k ih =>
    intro r w b9 b10 fu hr hw hf H
    obtain ⟨g, rfl⟩ : ∃ g, fu = g + 1 := ⟨fu - 1, by omega⟩
    have h64 : 2 ^ r ≤ 64 := Nat.pow_le_pow_right (n := 2) (i := r) (j := 6) (by omega) (by omega)
    have hD := nd_D_le E w n m (by omega)
    unfold wX_wholeDistance_45
    refine pk_le 6 r (fun z => absurd z (by omega)) (fun _ => ?_)
    refine nd_band hm hn (by omega) hE (fun c9 c10 => ?_)
    refine pk_lt w (nd_D E w n m) (fun z => nm_r (show nI w * 2 = nI (w * 2) from pk_mul w 2) (nm_r (nI_1 r) ?_)) (fun z => ?_)
    · refine ih (r + 1) (w * 2) c9 c10 g (by omega) (by rw [Nat.pow_succ]; omega) (by omega) (fun d9 d10 => ?_)
      have H' := H d9 d10
      unfold nd_wg at H'
      rw [if_pos z] at H'
      exact H'
    · have H' := H c9 c10
      unfold nd_wg at H'
      rw [if_neg (by omega)] at H'
      exact H'
theorem nd_whole0 {m n : Nat} {E : Nat → Nat → Bool} (hm : m ≤ 16) (hn : n ≤ 16) (hE : ∀ i, i < m → ∀ j, j < n → (a7 i = a8 j ↔ E i j = true))
    (H : ∀ b9 b10, post (nI (nd_wd E m n)) (ql, bd, be, nI m, nI n, a1, a2, a3, a4, a5, a6, a7, a8, b9, b10)) :
    wpX_wholeDistance post (ql, bd, be, nI m, nI n, a1, a2, a3, a4, a5, a6, a7, a8, a9, a10) := by
  have key : ∀ g, g = (n - m) + (m - n) → wX_wholeDistance_32 post (nI g) ql bd be (nI m) (nI n) a1 a2 a3 a4 a5 a6 a7 a8 a9 a10 := by
    intro g hg
    unfold wX_wholeDistance_32
    refine pk_le g 0 (fun z => ⟨7, ?_⟩) (fun z => ⟨7, ?_⟩)
    · refine nd_w45 hm hn hE 6 0 1 a9 a10 7 (by omega) (by omega) (by omega) (fun b9 b10 => ?_)
      have H' := H b9 b10
      unfold nd_wd nd_bw at H'
      rw [if_pos (by omega)] at H'
      exact H'
    · refine nd_w45 hm hn hE 6 0 g a9 a10 7 (by omega) (by omega) (by omega) (fun b9 b10 => ?_)
      have H' := H b9 b10
      unfold nd_wd nd_bw at H'
      rw [if_neg (by omega), ← hg] at H'
      exact H'
  unfold wpX_wholeDistance
  refine pk_le m n (fun z => ?_) (fun z => ?_)
  · rw [pk_sub z]
    exact key (n - m) (by omega)
  · rw [pk_sub (by omega)]
    exact key (m - n) (by omega)
theorem nd_takeY {Q : St2 → Prop} {k n : Nat} {t : Nat → Nat} (hk : k < 8) (hn : n ≤ 16) (h1 : a1 k = nI n) (h2 : ∀ i, i < n → a2 (16 * k + i) = nI (t i) ∧ t i < 4)
    (H : ∀ b8, (∀ i, i < n → b8 i = nI (t i)) → Q (ql, bd, be, xl, nI n, a1, a2, a3, a4, a5, a6, a7, b8, a9, a10)) :
    wpX_takeAsY Q (ql, bd, be, xl, yl, a1, a2, a3, a4, a5, a6, a7, a8, a9, a10) (nI k) := by
  unfold wpX_takeAsY
  refine pk_loop (fun fu i b8 => wX_takeAsY_2 Q (nI k) ql bd be xl yl fu (nI i) a1 a2 a3 a4 a5 a6 a7 b8 a9 a10) (fun i b8 => ∀ l, l < i → b8 l = nI (t l)) n 0 a8 (by omega) (fun l hl => absurd hl (by omega)) ?_ ?_
  · intro fu b8 h
    show wX_takeAsY_2 Q (nI k) ql bd be xl yl (fu + 1) (nI n) a1 a2 a3 a4 a5 a6 a7 b8 a9 a10
    unfold wX_takeAsY_2
    rw [nI_clamp (show k < 2 ^ 31 by omega), h1]
    exact ⟨pk_in k 8 hk, pk_le n n (fun _ => ⟨pk_in k 8 hk, nm_e (H b8 h)⟩) (fun z => absurd z (by omega))⟩
  · intro fu i b8 hi h hs
    show wX_takeAsY_2 Q (nI k) ql bd be xl yl (fu + 1) (nI i) a1 a2 a3 a4 a5 a6 a7 b8 a9 a10
    unfold wX_takeAsY_2
    rw [nI_clamp (show k < 2 ^ 31 by omega), h1, nd_ix, nI_clamp (show 16 * k + i < 2 ^ 31 by omega), (h2 i hi).1, nI_clamp (show i < 2 ^ 31 by omega)]
    refine ⟨pk_in k 8 hk, pk_le n i (fun z => absurd z (by omega)) (fun _ => ⟨pk_in (16 * k + i) 128 (by omega), pk_in i 16 (by omega), nm_e (nm_r (nI_1 i) (hs _ (fun l hl => ?_)))⟩)⟩
    by_cases c : l = i
    · rw [c, pk_us]
    · rw [pk_un c]
      exact h l (by omega)
theorem nd_eqE {m n : Nat} {s t : Nat → Nat} {b7 b8 : Nat → Int32} (hs : ∀ i, i < m → b7 i = nI (s i) ∧ s i < 4) (ht : ∀ i, i < n → b8 i = nI (t i) ∧ t i < 4) :
    ∀ i, i < m → ∀ j, j < n → (b7 i = b8 j ↔ decide (s i = t j) = true) := by
  intro i hi j hj
  obtain ⟨e1, l1⟩ := hs i hi
  obtain ⟨e2, l2⟩ := ht j hj
  rw [e1, e2, nI_eq (by omega) (by omega), decide_eq_true_iff]
theorem nd_whole {N : Nat → Nat} {T : Nat → Nat → Nat} {k m : Nat} {s : Nat → Nat} (hk : k < 8) (hd : nd_docs N T a1 a2) (hq : nd_qry m s a4)
    (H : ∀ xl yl b7 b8 b9 b10, post (nI (nd_wd (fun i j => decide (s i = T k j)) m (N k))) (nI m, bd, be, xl, yl, a1, a2, a3, a4, a5, a6, b7, b8, b9, b10)) :
    wpX_whole post (nI m, bd, be, xl, yl, a1, a2, a3, a4, a5, a6, a7, a8, a9, a10) (nI k) := by
  unfold wpX_whole
  refine nd_isDoc hk (br_f (by decide) ?_)
  obtain ⟨h0, h1, h2⟩ := hd k hk
  obtain ⟨hm, hs⟩ := hq
  refine pk_loop (fun fu i b7 => wX_whole_11 post (nI k) (nI m) bd be xl yl fu (nI i) a1 a2 a3 a4 a5 a6 b7 a8 a9 a10) (fun i b7 => ∀ l, l < i → b7 l = nI (s l)) m 0 a7 (by omega) (fun l hl => absurd hl (by omega)) ?_ ?_
  · intro fu b7 h
    show wX_whole_11 post (nI k) (nI m) bd be xl yl (fu + 1) (nI m) a1 a2 a3 a4 a5 a6 b7 a8 a9 a10
    unfold wX_whole_11
    refine pk_le m m (fun _ => ?_) (fun z => absurd z (by omega))
    refine nd_takeY hk h0 h1 h2 (fun b8 h8 => ?_)
    exact nd_whole0 (by omega) h0 (nd_eqE (fun i hi => ⟨h i hi, (hs i hi).2⟩) (fun i hi => ⟨h8 i hi, (h2 i hi).2⟩)) (fun b9 b10 => H _ _ b7 b8 b9 b10)
  · intro fu i b7 hi h hw
    show wX_whole_11 post (nI k) (nI m) bd be xl yl (fu + 1) (nI i) a1 a2 a3 a4 a5 a6 b7 a8 a9 a10
    unfold wX_whole_11
    rw [nI_clamp (show i < 2 ^ 31 by omega), (hs i hi).1]
    refine pk_le m i (fun z => absurd z (by omega)) (fun _ => ⟨pk_in i 8 (by omega), pk_in i 16 (by omega), nm_e (nm_r (nI_1 i) (hw _ (fun l hl => ?_)))⟩)
    by_cases c : l = i
    · rw [c, pk_us]
    · rw [pk_un c]
      exact h l (by omega)
theorem nd_between {N : Nat → Nat} {T : Nat → Nat → Nat} {k k2 : Nat} (hk : k < 8) (hk2 : k2 < 8) (hd : nd_docs N T a1 a2)
    (H : ∀ xl yl b7 b8 b9 b10, post (nI (nd_wd (fun i j => decide (T k i = T k2 j)) (N k) (N k2))) (ql, bd, be, xl, yl, a1, a2, a3, a4, a5, a6, b7, b8, b9, b10)) :
    wpX_between post (ql, bd, be, xl, yl, a1, a2, a3, a4, a5, a6, a7, a8, a9, a10) (nI k) (nI k2) := by
  unfold wpX_between
  refine nd_isDoc hk (br_f (by decide) (nd_isDoc hk2 (br_f (by decide) ?_)))
  obtain ⟨h0, h1, h2⟩ := hd k hk
  obtain ⟨g0, g1, g2⟩ := hd k2 hk2
  refine pk_loop (fun fu i b7 => wX_between_18 post (nI k) (nI k2) ql bd be xl yl fu (nI i) a1 a2 a3 a4 a5 a6 b7 a8 a9 a10) (fun i b7 => ∀ l, l < i → b7 l = nI (T k l)) (N k) 0 a7 (by omega) (fun l hl => absurd hl (by omega)) ?_ ?_
  · intro fu b7 h
    show wX_between_18 post (nI k) (nI k2) ql bd be xl yl (fu + 1) (nI (N k)) a1 a2 a3 a4 a5 a6 b7 a8 a9 a10
    unfold wX_between_18
    rw [nI_clamp (show k < 2 ^ 31 by omega), h1]
    refine ⟨pk_in k 8 hk, pk_le (N k) (N k) (fun _ => ⟨pk_in k 8 hk, nm_e ?_⟩) (fun z => absurd z (by omega))⟩
    refine nd_takeY hk2 g0 g1 g2 (fun b8 h8 => ?_)
    exact nd_whole0 h0 g0 (nd_eqE (fun i hi => ⟨h i hi, (h2 i hi).2⟩) (fun i hi => ⟨h8 i hi, (g2 i hi).2⟩)) (fun b9 b10 => H _ _ b7 b8 b9 b10)
  · intro fu i b7 hi h hw
    show wX_between_18 post (nI k) (nI k2) ql bd be xl yl (fu + 1) (nI i) a1 a2 a3 a4 a5 a6 b7 a8 a9 a10
    unfold wX_between_18
    rw [nI_clamp (show k < 2 ^ 31 by omega), h1, nd_ix, nI_clamp (show 16 * k + i < 2 ^ 31 by omega), (h2 i hi).1, nI_clamp (show i < 2 ^ 31 by omega)]
    refine ⟨pk_in k 8 hk, pk_le (N k) i (fun z => absurd z (by omega)) (fun _ => ⟨pk_in (16 * k + i) 128 (by omega), pk_in i 16 (by omega), nm_e (nm_r (nI_1 i) (hw _ (fun l hl => ?_)))⟩)⟩
    by_cases c : l = i
    · rw [c, pk_us]
    · rw [pk_un c]
      exact h l (by omega)
end
end
section
section
variable {ql bd be xl yl : Int32} {a1 a2 a3 a4 a5 a6 a7 a8 a9 a10 : Nat → Int32}
def nd_sp (K : Nat) (C : Nat → Nat) (i : Nat) : Nat := if i ≤ K then 0 else if C K = 0 then 0 else 1
theorem nd_sp_t {K i : Nat} {C : Nat → Nat} (h : (if i = K then 1 else 0) ≤ C i) : nd_sp K C i + (if i = K then 1 else 0) = nd_sp K C (i + 1) := by
  unfold nd_sp
  by_cases c : i = K
  · subst c
    rw [if_pos rfl] at h ⊢
    rw [if_pos (Nat.le_refl _), if_neg (by omega), if_neg (by omega)]
  · rw [if_neg c]
    by_cases g : i ≤ K
    · rw [if_pos g, if_pos (by omega)]
    · rw [if_neg g, if_neg (show ¬ i + 1 ≤ K by omega)]
      omega
theorem nd_sp_f {K i : Nat} {C : Nat → Nat} (h : C i < (if i = K then 1 else 0)) : nd_sp K C i + C i = nd_sp K C (i + 1) := by
  unfold nd_sp
  by_cases c : i = K
  · subst c
    rw [if_pos rfl] at h
    rw [if_pos (Nat.le_refl _), if_neg (by omega), if_pos (by omega)]
    omega
  · rw [if_neg c] at h
    exact absurd h (by omega)
theorem nd_shared {P : Int32 → Prop} {k K : Nat} {C : Nat → Nat} (hk : k < 8) (hK : K < 16) (h5 : ∀ i, i < 16 → a5 i = nI (if i = K then 1 else 0)) (h3 : ∀ i, i < 16 → a3 (16 * k + i) = nI (C i) ∧ C i ≤ 1000)
    (H : P (nd_b (decide (C K ≠ 0)))) : wpX_sharedPairs P (ql, bd, be, xl, yl, a1, a2, a3, a4, a5, a6, a7, a8, a9, a10) (nI k) := by
  unfold wpX_sharedPairs
  refine pk_loop (σ := Unit) (fun fu i _ => wX_sharedPairs_4 P (nI k) ql bd be xl yl a1 a2 a3 a4 a5 a6 a7 a8 a9 a10 fu (nI (nd_sp K C i)) (nI i)) (fun _ _ => True) 16 0 () (by omega) trivial ?_ ?_
  · intro fu _ _
    show wX_sharedPairs_4 P (nI k) ql bd be xl yl a1 a2 a3 a4 a5 a6 a7 a8 a9 a10 (fu + 1) (nI (nd_sp K C 16)) (nI 16)
    unfold wX_sharedPairs_4
    refine pk_le 16 16 (fun _ => ?_) (fun z => absurd z (by omega))
    unfold nd_sp
    rw [if_neg (by omega)]
    by_cases c : C K = 0
    · rw [if_pos c]
      rw [show decide (C K ≠ 0) = false from decide_eq_false (fun z => z c)] at H
      exact H
    · rw [if_neg c]
      rw [show decide (C K ≠ 0) = true from decide_eq_true c] at H
      exact H
  · intro fu i _ hi _ hw
    have hw' : wX_sharedPairs_4 P (nI k) ql bd be xl yl a1 a2 a3 a4 a5 a6 a7 a8 a9 a10 fu (nI (nd_sp K C (i + 1))) (nI (i + 1)) := hw () trivial
    show wX_sharedPairs_4 P (nI k) ql bd be xl yl a1 a2 a3 a4 a5 a6 a7 a8 a9 a10 (fu + 1) (nI (nd_sp K C i)) (nI i)
    obtain ⟨e3, l3⟩ := h3 i hi
    have hq : (if i = K then 1 else 0) ≤ 1 := by split <;> omega
    unfold wX_sharedPairs_4
    rw [nd_ix, nI_clamp (show 16 * k + i < 2 ^ 31 by omega), e3, nI_clamp (show i < 2 ^ 31 by omega), h5 i hi]
    refine pk_le 16 i (fun z => absurd z (by omega)) (fun _ => ⟨pk_in (16 * k + i) 128 (by omega), nm_e ⟨pk_in i 16 hi, pk_le (if i = K then 1 else 0) (C i) (fun z => ⟨pk_in i 16 hi, nm_r ((nI_add _ _).trans (congrArg nI (nd_sp_t z))) (nm_r (nI_1 i) hw')⟩) (fun z => nm_r ((nI_add _ _).trans (congrArg nI (nd_sp_f z))) (nm_r (nI_1 i) hw'))⟩⟩)
theorem nd_pairs {P : Int32 → Prop} {k K : Nat} {C : Nat → Nat} (hk : k < 8) (hK : K < 16) (h5 : ∀ i, i < 16 → a5 i = nI (if i = K then 1 else 0)) (h3 : ∀ i, i < 16 → a3 (16 * k + i) = nI (C i) ∧ C i ≤ 1000)
    (H : P (nd_b (decide (C K ≠ 0)))) : wpX_pairs P (ql, bd, be, xl, yl, a1, a2, a3, a4, a5, a6, a7, a8, a9, a10) (nI k) := by
  unfold wpX_pairs
  exact nd_isDoc hk (br_f (by decide) (nd_shared hk hK h5 h3 H))
theorem nd_mayE {P : Int32 → Prop} {k K : Nat} {C : Nat → Nat} (hk : k < 8) (hK : K < 16) (h5 : ∀ i, i < 16 → a5 i = nI (if i = K then 1 else 0)) (h3 : ∀ i, i < 16 → a3 (16 * k + i) = nI (C i) ∧ C i ≤ 1000)
    (e : Nat) (he : e ≤ 2) (H : P (nd_b (if e = 0 then decide (C K ≠ 0) else true))) : wpX_mayBeWithin P (nI 2, bd, be, xl, yl, a1, a2, a3, a4, a5, a6, a7, a8, a9, a10) (nI k) (nI e) := by
  unfold wpX_mayBeWithin
  refine pk_le 0 e (fun _ => ?_) (fun z => absurd z (by omega))
  rcases (show e = 0 ∨ e = 1 ∨ e = 2 by omega) with z | z | z
  · subst z
    rw [if_pos rfl] at H
    refine pk_lt 0 2 (fun _ => nd_shared hk hK h5 h3 ?_) (fun z => absurd z (by omega))
    cases hb : decide (C K ≠ 0) with
    | false =>
      rw [hb] at H
      exact br_t (by decide) H
    | true =>
      rw [hb] at H
      exact br_f (by decide) H
  · subst z
    refine pk_lt 1 2 (fun _ => nd_shared hk hK h5 h3 ?_) (fun z => absurd z (by omega))
    cases hb : decide (C K ≠ 0) with
    | false => exact br_f (by decide) H
    | true => exact br_f (by decide) H
  · subst z
    exact pk_lt 2 2 (fun z => absurd z (by omega)) (fun _ => H)
theorem nd_mayM {P : Int32 → Prop} {k m : Nat} (H : P (nd_b false)) : wpX_mayBeWithin P (nI m, bd, be, xl, yl, a1, a2, a3, a4, a5, a6, a7, a8, a9, a10) (nI k) (nI 0 - 1) := by
  unfold wpX_mayBeWithin
  exact br_f (by decide) H
theorem nd_mayL {P : Int32 → Prop} {k K : Nat} {C : Nat → Nat} (hk : k < 8) (hK : K < 16) (h5 : ∀ i, i < 16 → a5 i = nI (if i = K then 1 else 0)) (h3 : ∀ i, i < 16 → a3 (16 * k + i) = nI (C i) ∧ C i ≤ 1000)
    (l : Nat) (hl : l ≤ 2) (H : P (nd_b (if l = 0 then false else if l = 1 then decide (C K ≠ 0) else true))) : wpX_mayBeWithin P (nI 2, bd, be, xl, yl, a1, a2, a3, a4, a5, a6, a7, a8, a9, a10) (nI k) (nI l - 1) := by
  cases l with
  | zero => exact nd_mayM H
  | succ l =>
    rw [nI_pred]
    refine nd_mayE hk hK h5 h3 l (by omega) ?_
    rw [if_neg (by omega)] at H
    by_cases c : l = 0
    · rw [if_pos c]
      rw [if_pos (by omega)] at H
      exact H
    · rw [if_neg c]
      rw [if_neg (by omega)] at H
      exact H
end
theorem nd_nr_le {D : Nat → Nat} {M : Nat → Nat → Bool} {B n : Nat} (h : ∀ k, k ≤ n → D k ≤ B) : ∀ k, k ≤ n → (nd_nr D M k).2 ≤ B := by
  intro k
  induction k with
  | zero => intro hk; exact h 0 hk
  | succ k ih =>
    intro hk
    unfold nd_nr
    split
    · exact h (k + 1) hk
    · exact ih (by omega)
section
variable {post : Int32 → St2 → Prop} {ql bd be xl yl : Int32} {a1 a2 a3 a4 a5 a6 a7 a8 a9 a10 : Nat → Int32}
theorem nd_nearest {N : Nat → Nat} {T : Nat → Nat → Nat} {m B : Nat} {s : Nat → Nat} {D : Nat → Nat} {M : Nat → Nat → Bool} (hd : nd_docs N T a1 a2) (hq : nd_qry m s a4) (hB : B ≤ 100)
    (hD : ∀ k, k < 8 → (nd_se m s (N k) (T k)).1 = nI (D k) ∧ D k ≤ B)
    (hM : ∀ k, k < 8 → ∀ l, l ≤ B → ∀ (bd be : Int32) (b6 : Nat → Int32) (P : Int32 → Prop), P (nd_b (M k l)) → wpX_mayBeWithin P (nI m, bd, be, xl, yl, a1, a2, a3, a4, a5, b6, a7, a8, a9, a10) (nI k) (nI l - 1))
    (H : ∀ bd be b6, post (nI (nd_nr D M 7).1) (nI m, bd, be, xl, yl, a1, a2, a3, a4, a5, b6, a7, a8, a9, a10)) :
    wpX_nearest post (nI m, bd, be, xl, yl, a1, a2, a3, a4, a5, a6, a7, a8, a9, a10) := by
  unfold wpX_nearest
  have hs : ∀ (Q : St2 → Prop) (k : Nat) (bd be : Int32) (c6 : Nat → Int32), k < 8 → (∀ be b6, Q (nI m, nI (D k), be, xl, yl, a1, a2, a3, a4, a5, b6, a7, a8, a9, a10)) → wpX_search Q (nI m, bd, be, xl, yl, a1, a2, a3, a4, a5, c6, a7, a8, a9, a10) (nI k) := by
    intro Q k bd be c6 hk HQ
    obtain ⟨h0, h1, h2⟩ := hd k hk
    refine nd_search hk h0 h1 h2 hq (fun b6 => ?_)
    rw [(hD k hk).1]
    exact HQ _ b6
  refine hs _ 0 bd be a6 (by omega) (fun be0 b60 => ?_)
  refine pk_loop (fun fu i (v : Int32 × Int32 × (Nat → Int32)) => wX_nearest_14 post fu (nI (nd_nr D M i).1) (nI (nd_nr D M i).2) (nI (i + 1)) (nI m) v.1 v.2.1 xl yl a1 a2 a3 a4 a5 v.2.2 a7 a8 a9 a10) (fun _ _ => True) 7 0 (nI (D 0), be0, b60) (by omega) trivial ?_ ?_
  · intro fu v _
    show wX_nearest_14 post (fu + 1) (nI (nd_nr D M 7).1) (nI (nd_nr D M 7).2) (nI (7 + 1)) (nI m) v.1 v.2.1 xl yl a1 a2 a3 a4 a5 v.2.2 a7 a8 a9 a10
    unfold wX_nearest_14
    exact pk_le 8 8 (fun _ => H _ _ _) (fun z => absurd z (by omega))
  · intro fu i v hi _ hw
    have hw' : ∀ (x y : Nat) (bd be : Int32) (b6 : Nat → Int32), nd_nr D M (i + 1) = (x, y) → wX_nearest_14 post fu (nI x) (nI y) (nI (i + 1 + 1)) (nI m) bd be xl yl a1 a2 a3 a4 a5 b6 a7 a8 a9 a10 := by
      intro x y bd be b6 e
      have t : wX_nearest_14 post fu (nI (nd_nr D M (i + 1)).1) (nI (nd_nr D M (i + 1)).2) (nI (i + 1 + 1)) (nI m) bd be xl yl a1 a2 a3 a4 a5 b6 a7 a8 a9 a10 := hw (bd, be, b6) trivial
      rw [e] at t
      exact t
    have hl : (nd_nr D M i).2 ≤ B := nd_nr_le (n := 7) (fun k hk => (hD k (by omega)).2) i (by omega)
    have hl2 := (hD (i + 1) (by omega)).2
    have en : nd_nr D M (i + 1) = if M (i + 1) (nd_nr D M i).2 && decide (D (i + 1) < (nd_nr D M i).2) then (i + 1, D (i + 1)) else nd_nr D M i := rfl
    show wX_nearest_14 post (fu + 1) (nI (nd_nr D M i).1) (nI (nd_nr D M i).2) (nI (i + 1)) (nI m) v.1 v.2.1 xl yl a1 a2 a3 a4 a5 v.2.2 a7 a8 a9 a10
    unfold wX_nearest_14
    refine pk_le 8 (i + 1) (fun z => absurd z (by omega)) (fun _ => hM (i + 1) (by omega) _ hl _ _ _ _ ?_)
    cases hb : M (i + 1) (nd_nr D M i).2 with
    | false =>
      rw [hb, Bool.false_and, if_neg (by decide)] at en
      exact br_t rfl (nm_r (nI_1 (i + 1)) (hw' _ _ _ _ _ en))
    | true =>
      rw [hb, Bool.true_and] at en
      refine br_f (by decide) (hs _ (i + 1) _ _ _ (by omega) (fun be' b6' => pk_le (nd_nr D M i).2 (D (i + 1)) (fun z => nm_r (nI_1 (i + 1)) (hw' _ _ _ _ _ ?_)) (fun z => nm_r (nI_1 (i + 1)) (hw' _ _ _ _ _ ?_))))
      · rw [if_neg (by rw [decide_eq_true_iff]; omega)] at en
        exact en
      · rw [if_pos (decide_eq_true z)] at en
        exact en
theorem nd_within {N : Nat → Nat} {T : Nat → Nat → Nat} {m e : Nat} {s : Nat → Nat} {D : Nat → Nat} {M : Nat → Bool} (hd : nd_docs N T a1 a2) (hq : nd_qry m s a4) (he : e ≤ 100)
    (hD : ∀ k, k < 8 → (nd_se m s (N k) (T k)).1 = nI (D k) ∧ D k ≤ 100)
    (hM : ∀ k, k < 8 → ∀ (bd be : Int32) (b6 : Nat → Int32) (P : Int32 → Prop), P (nd_b (M k)) → wpX_mayBeWithin P (nI m, bd, be, xl, yl, a1, a2, a3, a4, a5, b6, a7, a8, a9, a10) (nI k) (nI e))
    (H : ∀ bd be b6, post (nI (nd_wi D M e 8)) (nI m, bd, be, xl, yl, a1, a2, a3, a4, a5, b6, a7, a8, a9, a10)) :
    wpX_within post (nI m, bd, be, xl, yl, a1, a2, a3, a4, a5, a6, a7, a8, a9, a10) (nI e) := by
  unfold wpX_within
  refine pk_loop (fun fu i (v : Int32 × Int32 × (Nat → Int32)) => wX_within_4 post (nI e) fu (nI (nd_wi D M e i)) (nI i) (nI m) v.1 v.2.1 xl yl a1 a2 a3 a4 a5 v.2.2 a7 a8 a9 a10) (fun _ _ => True) 8 0 (bd, be, a6) (by omega) trivial ?_ ?_
  · intro fu v _
    show wX_within_4 post (nI e) (fu + 1) (nI (nd_wi D M e 8)) (nI 8) (nI m) v.1 v.2.1 xl yl a1 a2 a3 a4 a5 v.2.2 a7 a8 a9 a10
    unfold wX_within_4
    exact pk_le 8 8 (fun _ => H _ _ _) (fun z => absurd z (by omega))
  · intro fu i v hi _ hw
    have hw' : ∀ (x : Nat) (bd be : Int32) (b6 : Nat → Int32), nd_wi D M e (i + 1) = x → wX_within_4 post (nI e) fu (nI x) (nI (i + 1)) (nI m) bd be xl yl a1 a2 a3 a4 a5 b6 a7 a8 a9 a10 := by
      intro x bd be b6 ex
      have t : wX_within_4 post (nI e) fu (nI (nd_wi D M e (i + 1))) (nI (i + 1)) (nI m) bd be xl yl a1 a2 a3 a4 a5 b6 a7 a8 a9 a10 := hw (bd, be, b6) trivial
      rw [ex] at t
      exact t
    have hl2 := (hD i hi).2
    have en : nd_wi D M e (i + 1) = nd_wi D M e i + (if M i && decide (D i ≤ e) then 1 else 0) := rfl
    show wX_within_4 post (nI e) (fu + 1) (nI (nd_wi D M e i)) (nI i) (nI m) v.1 v.2.1 xl yl a1 a2 a3 a4 a5 v.2.2 a7 a8 a9 a10
    unfold wX_within_4
    refine pk_le 8 i (fun z => absurd z (by omega)) (fun _ => hM i hi _ _ _ _ ?_)
    cases hb : M i with
    | false =>
      rw [hb, Bool.false_and, if_neg (by decide)] at en
      exact br_t rfl (nm_r (nI_1 i) (hw' _ _ _ _ en))
    | true =>
      rw [hb, Bool.true_and] at en
      refine br_f (by decide) ?_
      obtain ⟨h0, h1, h2⟩ := hd i hi
      refine nd_search hi h0 h1 h2 hq (fun b6 => ?_)
      rw [(hD i hi).1]
      refine pk_lt e (D i) (fun z => nm_r (nI_add (nd_wi D M e i) 0) (nm_r (nI_1 i) (hw' _ _ _ _ ?_))) (fun z => nm_r (nI_1 (nd_wi D M e i)) (nm_r (nI_1 i) (hw' _ _ _ _ ?_)))
      · rw [if_neg (by rw [decide_eq_true_iff]; omega)] at en
        exact en
      · rw [if_pos (decide_eq_true z)] at en
        exact en
theorem nd_wipe {k : Nat} {x : Int32} (hk : k < 8) (h1 : a1 k = x) (H : ∀ b3, post x (ql, bd, be, xl, yl, upd a1 k 0, a2, b3, a4, a5, a6, a7, a8, a9, a10)) : wpX_wipe post (ql, bd, be, xl, yl, a1, a2, a3, a4, a5, a6, a7, a8, a9, a10) (nI k) := by
  unfold wpX_wipe
  refine nd_isDoc hk (br_f (by decide) ?_)
  rw [nI_clamp (show k < 2 ^ 31 by omega), h1]
  refine ⟨pk_in k 8 hk, nm_e ⟨pk_in k 8 hk, nm_e (nm_r (show (16 : Int32) * nI k = nI (16 * k + 0) from pk_mul 16 k) ?_)⟩⟩
  refine pk_loop (fun fu i b3 => wX_wipe_28 post (nI k) x ql bd be xl yl fu (nI (16 * k + i)) (upd a1 k 0) a2 b3 a4 a5 a6 a7 a8 a9 a10) (fun _ _ => True) 16 0 a3 (by omega) trivial ?_ ?_
  · intro fu b3 _
    show wX_wipe_28 post (nI k) x ql bd be xl yl (fu + 1) (nI (16 * k + 16)) (upd a1 k 0) a2 b3 a4 a5 a6 a7 a8 a9 a10
    unfold wX_wipe_28
    exact pk_le (16 * k + 16) (16 * k + 16) (fun _ => H b3) (fun z => absurd z (by omega)) (nd_ix k 16)
  · intro fu i b3 hi _ hw
    show wX_wipe_28 post (nI k) x ql bd be xl yl (fu + 1) (nI (16 * k + i)) (upd a1 k 0) a2 b3 a4 a5 a6 a7 a8 a9 a10
    unfold wX_wipe_28
    exact pk_le (16 * k + 16) (16 * k + i) (fun z => absurd z (by omega)) (fun _ => ⟨pk_in (16 * k + i) 128 (by omega), nm_e (nm_r (nI_1 (16 * k + i)) (hw _ trivial))⟩) (nd_ix k 16)
theorem nd_clear {Q : St2 → Prop} (H : ∀ b5, Q (nI 0, bd, be, xl, yl, a1, a2, a3, a4, b5, a6, a7, a8, a9, a10)) : wpX_clear Q (ql, bd, be, xl, yl, a1, a2, a3, a4, a5, a6, a7, a8, a9, a10) := by
  unfold wpX_clear
  refine pk_loop (fun fu i b5 => wX_clear_7 Q (nI 0) bd be xl yl fu (nI i) a1 a2 a3 a4 b5 a6 a7 a8 a9 a10) (fun _ _ => True) 16 0 a5 (by omega) trivial ?_ ?_
  · intro fu b5 _
    show wX_clear_7 Q (nI 0) bd be xl yl (fu + 1) (nI 16) a1 a2 a3 a4 b5 a6 a7 a8 a9 a10
    unfold wX_clear_7
    exact pk_le 16 16 (fun _ => H b5) (fun z => absurd z (by omega))
  · intro fu i b5 hi _ hw
    show wX_clear_7 Q (nI 0) bd be xl yl (fu + 1) (nI i) a1 a2 a3 a4 b5 a6 a7 a8 a9 a10
    unfold wX_clear_7
    exact pk_le 16 i (fun z => absurd z (by omega)) (fun _ => ⟨pk_in i 16 (by omega), nm_e (nm_r (nI_1 i) (hw _ trivial))⟩)
theorem nd_write0 {k l : Nat} {x : Int32} (hk : k < 8) (hl : l < 4) (hx : x &&& 3 = nI l) (h1 : a1 k = nI 0)
    (H : post (nI 1) (ql, bd, be, xl, yl, upd a1 k (nI 1), upd a2 (16 * k) (nI l), a3, a4, a5, a6, a7, a8, a9, a10)) : wpX_write post (ql, bd, be, xl, yl, a1, a2, a3, a4, a5, a6, a7, a8, a9, a10) (nI k) x := by
  unfold wpX_write
  refine nd_isDoc hk (br_f (by decide) ?_)
  rw [nI_clamp (show k < 2 ^ 31 by omega), h1, hx]
  refine ⟨pk_in k 8 hk, pk_lt 0 16 (fun _ => ⟨pk_in k 8 hk, nm_e ?_⟩) (fun z => absurd z (by omega))⟩
  rw [nd_ix, nI_clamp (show 16 * k + 0 < 2 ^ 31 by omega)]
  refine ⟨pk_in (16 * k + 0) 128 (by omega), nm_e (pk_le 0 0 (fun _ => ?_) (fun z => absurd z (by omega)))⟩
  unfold wX_write_78
  rw [nI_clamp (show k < 2 ^ 31 by omega), nI_1]
  exact ⟨pk_in k 8 hk, nm_e H⟩
theorem nd_write1 {k l n y : Nat} {x : Int32} (hk : k < 8) (hl : l < 4) (hx : x &&& 3 = nI l) (hn : n + 1 < 16) (h1 : a1 k = nI (n + 1)) (h2 : a2 (16 * k + n) = nI y) (hy : y < 4)
    (H : post (nI (n + 2)) (ql, bd, be, xl, yl, upd a1 k (nI (n + 2)), upd a2 (16 * k + (n + 1)) (nI l), upd a3 (16 * k + 4 * y + l) (a3 (16 * k + 4 * y + l) + 1), a4, a5, a6, a7, a8, a9, a10)) : wpX_write post (ql, bd, be, xl, yl, a1, a2, a3, a4, a5, a6, a7, a8, a9, a10) (nI k) x := by
  unfold wpX_write
  refine nd_isDoc hk (br_f (by decide) ?_)
  rw [nI_clamp (show k < 2 ^ 31 by omega), h1, hx]
  refine ⟨pk_in k 8 hk, pk_lt (n + 1) 16 (fun _ => ⟨pk_in k 8 hk, nm_e ?_⟩) (fun z => absurd z (by omega))⟩
  rw [nd_ix, nI_clamp (show 16 * k + (n + 1) < 2 ^ 31 by omega), show nI (16 * k + (n + 1)) - 1 = nI (16 * k + n) from nI_pred (16 * k + n), nI_clamp (show 16 * k + n < 2 ^ 31 by omega)]
  refine ⟨pk_in (16 * k + (n + 1)) 128 (by omega), nm_e (pk_le (n + 1) 0 (fun z => absurd z (by omega)) (fun _ => ?_))⟩
  rw [pk_un (show 16 * k + n ≠ 16 * k + (n + 1) by omega), h2]
  rw [show ((16 : Int32) * nI k + 4 * nI y) + nI l = nI (16 * k + 4 * y + l) by rw [show (16 : Int32) * nI k = nI (16 * k) from pk_mul 16 k, show (4 : Int32) * nI y = nI (4 * y) from pk_mul 4 y, nI_add, nI_add]]
  rw [nI_clamp (show 16 * k + 4 * y + l < 2 ^ 31 by omega)]
  refine ⟨pk_in (16 * k + n) 128 (by omega), pk_in (16 * k + 4 * y + l) 128 (by omega), pk_in (16 * k + 4 * y + l) 128 (by omega), nm_e ?_⟩
  unfold wX_write_78
  rw [nI_clamp (show k < 2 ^ 31 by omega), nI_1]
  exact ⟨pk_in k 8 hk, nm_e H⟩
theorem nd_type0 {l : Nat} {x : Int32} (hx : x &&& 3 = nI l)
    (H : post (nI 1) (nI 1, bd, be, xl, yl, a1, a2, a3, upd a4 0 (nI l), a5, a6, a7, a8, a9, a10)) : wpX_type post (nI 0, bd, be, xl, yl, a1, a2, a3, a4, a5, a6, a7, a8, a9, a10) x := by
  unfold wpX_type
  dsimp only
  rw [nI_clamp (show 0 < 2 ^ 31 by omega), hx]
  refine pk_lt 0 8 (fun _ => ⟨pk_in 0 8 (by omega), nm_e (pk_le 0 0 (fun _ => ?_) (fun z => absurd z (by omega)))⟩) (fun z => absurd z (by omega))
  unfold wX_type_56
  exact nm_r (nI_1 0) H
theorem nd_type1 {l y : Nat} {x : Int32} (hx : x &&& 3 = nI l) (hl : l < 4) (h4 : a4 0 = nI y) (hy : y < 4)
    (H : post (nI 2) (nI 2, bd, be, xl, yl, a1, a2, a3, upd a4 1 (nI l), upd a5 (4 * y + l) (a5 (4 * y + l) + 1), a6, a7, a8, a9, a10)) : wpX_type post (nI 1, bd, be, xl, yl, a1, a2, a3, a4, a5, a6, a7, a8, a9, a10) x := by
  unfold wpX_type
  dsimp only
  rw [show nI 1 - 1 = nI 0 from nI_pred 0, nI_clamp (show 1 < 2 ^ 31 by omega), nI_clamp (show 0 < 2 ^ 31 by omega), hx]
  refine pk_lt 1 8 (fun _ => ⟨pk_in 1 8 (by omega), nm_e (pk_le 1 0 (fun z => absurd z (by omega)) (fun _ => ?_))⟩) (fun z => absurd z (by omega))
  rw [pk_un (show 0 ≠ 1 by omega), h4]
  rw [show (4 : Int32) * nI y + nI l = nI (4 * y + l) by rw [show (4 : Int32) * nI y = nI (4 * y) from pk_mul 4 y, nI_add]]
  rw [nI_clamp (show 4 * y + l < 2 ^ 31 by omega)]
  refine ⟨pk_in 0 8 (by omega), pk_in (4 * y + l) 16 (by omega), pk_in (4 * y + l) 16 (by omega), nm_e ?_⟩
  unfold wX_type_56
  exact nm_r (nI_1 1) H
end
end
section
/-! the plain law by letters -/
def nd_BO (a b c d p q : Nat) : Bool := nd_bo (decide (a = p)) (decide (b = p)) (decide (c = p)) (decide (b = q)) (decide (c = q)) (decide (d = q))
def nd_AN (a b c d p q : Nat) : Bool := nd_an (decide (a = p)) (decide (b = p)) (decide (c = p)) (decide (d = p)) (decide (a = q)) (decide (b = q)) (decide (c = q)) (decide (d = q))
def nd_OD (a b c d p q : Nat) : Bool := nd_or (decide (a = p)) (decide (b = p)) (decide (c = p)) (decide (b = q)) (decide (c = q)) (decide (d = q))
def nd_SI (a b c d p q : Nat) : Bool := nd_si (decide (a = p)) (decide (b = p)) (decide (c = p)) (decide (b = q)) (decide (c = q)) (decide (d = q))
def nd_EN (a b c d p q : Nat) : Nat := nd_en (decide (a = p) && decide (b = q)) (decide (b = p) && decide (c = q)) (nd_BO a b c d p q) (decide (a = p) || decide (a = q)) (decide (b = p) || decide (b = q)) (decide (c = p) || decide (c = q)) (decide (d = p) || decide (d = q))
def nd_N1 : Nat → Nat := fun k => if k = 6 then 4 else 0
def nd_N2 : Nat → Nat := fun k => if k = 6 then 4 else if k = 2 then 2 else 0
def nd_N3 : Nat → Nat := fun k => if k = 2 then 2 else 0
def nd_T (a b c d p q : Nat) : Nat → Nat → Nat := fun k => if k = 2 then nd_f2 q p else nd_f4 a b c d
theorem nd_dc (x y : Nat) : decide (x = y) = decide (y = x) := decide_eq_decide.mpr eq_comm
theorem nd_lt2 {P : Nat → Prop} (h0 : P 0) (h1 : P 1) : ∀ i, i < 2 → P i := by
  intro i hi
  rcases (show i = 0 ∨ i = 1 by omega) with z | z <;> subst z
  · exact h0
  · exact h1
theorem nd_lt4 {P : Nat → Prop} (h0 : P 0) (h1 : P 1) (h2 : P 2) (h3 : P 3) : ∀ i, i < 4 → P i := by
  intro i hi
  rcases (show i = 0 ∨ i = 1 ∨ i = 2 ∨ i = 3 by omega) with z | z | z | z <;> subst z
  · exact h0
  · exact h1
  · exact h2
  · exact h3
theorem nd_mk2 (p q l : Nat) : nd_mk (nd_f2 p q) l 2 = nd_em (decide (l = p)) (decide (l = q)) := by
  have e : nd_mk (nd_f2 p q) l 2 = if q = l then (if p = l then (0 : Int32) ||| ((1 : Int32) <<< (nI 0 &&& 31)) else 0) ||| ((1 : Int32) <<< (nI 1 &&& 31)) else (if p = l then (0 : Int32) ||| ((1 : Int32) <<< (nI 0 &&& 31)) else 0) := rfl
  rw [e]
  by_cases h1 : p = l
  · by_cases h2 : q = l
    · rw [if_pos h1, if_pos h2, decide_eq_true h1.symm, decide_eq_true h2.symm]
      decide
    · rw [if_pos h1, if_neg h2, decide_eq_true h1.symm, decide_eq_false (fun z => h2 z.symm)]
      decide
  · by_cases h2 : q = l
    · rw [if_neg h1, if_pos h2, decide_eq_false (fun z => h1 z.symm), decide_eq_true h2.symm]
      decide
    · rw [if_neg h1, if_neg h2, decide_eq_false (fun z => h1 z.symm), decide_eq_false (fun z => h2 z.symm)]
      decide
theorem nd_se_e (p q n : Nat) (t : Nat → Nat) : nd_se 2 (nd_f2 p q) n t = nd_go (nd_full 2) (nd_top 2) (fun i => nd_mk (nd_f2 p q) (t i) 2) n 0 (nd_full 2) 0 (nI 2) (nI 2) 0 := by
  unfold nd_se
  rw [if_neg (by decide)]
theorem nd_se4 (a b c d p q : Nat) : nd_se 2 (nd_f2 p q) 4 (nd_f4 a b c d) = (nI (nd_di (nd_BO a b c d p q) (nd_AN a b c d p q)), nI (nd_EN a b c d p q)) := by
  have he : ∀ i, i < 4 → nd_mk (nd_f2 p q) (nd_f4 a b c d i) 2 = nd_e4 (decide (a = p)) (decide (b = p)) (decide (c = p)) (decide (d = p)) (decide (a = q)) (decide (b = q)) (decide (c = q)) (decide (d = q)) i :=
    nd_lt4 (P := fun i => nd_mk (nd_f2 p q) (nd_f4 a b c d i) 2 = nd_e4 (decide (a = p)) (decide (b = p)) (decide (c = p)) (decide (d = p)) (decide (a = q)) (decide (b = q)) (decide (c = q)) (decide (d = q)) i) (nd_mk2 p q a) (nd_mk2 p q b) (nd_mk2 p q c) (nd_mk2 p q d)
  rw [nd_se_e, nd_go_c (e := fun i => nd_mk (nd_f2 p q) (nd_f4 a b c d i) 2) (n := 4) he 4 0 _ _ _ _ _ (by omega)]
  exact nd_l_go _ _ _ _ _ _ _ _
theorem nd_se2 (p q : Nat) : (nd_se 2 (nd_f2 p q) 2 (nd_f2 q p)).1 = nI (if p = q then 0 else 1) := by
  have t := nd_l_go2 (decide (p = q))
  have e0 : nd_mk (nd_f2 p q) q 2 = nd_em (decide (p = q)) true := by rw [nd_mk2, nd_dc q p, decide_eq_true (rfl : q = q)]
  have e1 : nd_mk (nd_f2 p q) p 2 = nd_em true (decide (p = q)) := by rw [nd_mk2, decide_eq_true (rfl : p = p)]
  have he : ∀ i, i < 2 → nd_mk (nd_f2 p q) (nd_f2 q p i) 2 = (fun i => if i = 0 then nd_em (decide (p = q)) true else nd_em true (decide (p = q))) i :=
    nd_lt2 (P := fun i => nd_mk (nd_f2 p q) (nd_f2 q p i) 2 = (fun i => if i = 0 then nd_em (decide (p = q)) true else nd_em true (decide (p = q))) i) e0 e1
  rw [nd_se_e, nd_go_c (e := fun i => nd_mk (nd_f2 p q) (nd_f2 q p i) 2) (n := 2) he 2 0 _ _ _ _ _ (by omega), t]
  by_cases c : p = q
  · rw [if_pos c, if_pos (decide_eq_true c)]
  · rw [if_neg c, if_neg (by rw [decide_eq_true_iff]; exact c)]
theorem nd_E_e (a b c d p q : Nat) : ∀ i, i < 2 → ∀ j, j < 4 → decide (nd_f2 p q i = nd_f4 a b c d j) = nd_E4 (decide (a = p)) (decide (b = p)) (decide (c = p)) (decide (d = p)) (decide (a = q)) (decide (b = q)) (decide (c = q)) (decide (d = q)) i j :=
  nd_lt2 (P := fun i => ∀ j, j < 4 → decide (nd_f2 p q i = nd_f4 a b c d j) = nd_E4 (decide (a = p)) (decide (b = p)) (decide (c = p)) (decide (d = p)) (decide (a = q)) (decide (b = q)) (decide (c = q)) (decide (d = q)) i j)
    (nd_lt4 (P := fun j => decide (nd_f2 p q 0 = nd_f4 a b c d j) = nd_E4 (decide (a = p)) (decide (b = p)) (decide (c = p)) (decide (d = p)) (decide (a = q)) (decide (b = q)) (decide (c = q)) (decide (d = q)) 0 j) (nd_dc p a) (nd_dc p b) (nd_dc p c) (nd_dc p d))
    (nd_lt4 (P := fun j => decide (nd_f2 p q 1 = nd_f4 a b c d j) = nd_E4 (decide (a = p)) (decide (b = p)) (decide (c = p)) (decide (d = p)) (decide (a = q)) (decide (b = q)) (decide (c = q)) (decide (d = q)) 1 j) (nd_dc q a) (nd_dc q b) (nd_dc q c) (nd_dc q d))
theorem nd_wd4 (a b c d p q : Nat) : nd_wd (fun i j => decide (nd_f2 p q i = nd_f4 a b c d j)) 2 4 = nd_wh (nd_OD a b c d p q) (nd_SI a b c d p q) :=
  (nd_wd_c (nd_E_e a b c d p q)).trans (nd_l_wd _ _ _ _ _ _ _ _)
theorem nd_wdS (a b c d p q : Nat) : nd_wd (fun i j => decide (nd_f2 p q i = nd_f4 a b c d j)) 2 4 = nd_wd (fun i j => decide (nd_f4 a b c d i = nd_f2 p q j)) 4 2 := by
  refine (nd_wd_c (nd_E_e a b c d p q)).trans ((nd_l_sy _ _ _ _ _ _ _ _).trans (nd_wd_c (fun i hi j hj => ?_)))
  rw [← nd_E_e a b c d p q j hj i hi]
  exact nd_dc _ _
theorem nd_wd2 (p q : Nat) : nd_wd (fun i j => decide (nd_f2 p q i = nd_f2 q p j)) 2 2 = if p = q then 0 else 2 := by
  have he : ∀ i, i < 2 → ∀ j, j < 2 → decide (nd_f2 p q i = nd_f2 q p j) = (fun i j => if i = j then decide (p = q) else true) i j :=
    nd_lt2 (P := fun i => ∀ j, j < 2 → decide (nd_f2 p q i = nd_f2 q p j) = (fun i j => if i = j then decide (p = q) else true) i j)
      (nd_lt2 (P := fun j => decide (nd_f2 p q 0 = nd_f2 q p j) = (fun i j => if i = j then decide (p = q) else true) 0 j) rfl (decide_eq_true (rfl : p = p)))
      (nd_lt2 (P := fun j => decide (nd_f2 p q 1 = nd_f2 q p j) = (fun i j => if i = j then decide (p = q) else true) 1 j) (decide_eq_true (rfl : q = q)) (nd_dc q p))
  rw [nd_wd_c (E := fun i j => decide (nd_f2 p q i = nd_f2 q p j)) he, nd_l_w2]
  by_cases c : p = q
  · rw [if_pos c, if_pos (decide_eq_true c)]
  · rw [if_neg c, if_neg (by rw [decide_eq_true_iff]; exact c)]
theorem nd_wd20 (E : Nat → Nat → Bool) : nd_wd E 2 0 = 2 := by
  rw [nd_wd_c (E' := fun _ _ => true) (fun i hi j hj => absurd hj (by omega))]
  exact nd_l_w20
theorem nd_wd02 (E : Nat → Nat → Bool) : nd_wd E 0 2 = 2 := by
  rw [nd_wd_c (E' := fun _ _ => true) (fun i hi => absurd hi (by omega))]
  exact nd_l_w02
theorem nd_BA (a b c d p q : Nat) : nd_BO a b c d p q = true → nd_AN a b c d p q = true := nd_l_ba _ _ _ _ _ _ _ _
theorem nd_di_le (x y : Bool) : nd_di x y ≤ 2 := by
  cases x <;> cases y <;> decide
/-! the state of the first phase: document 6 holds a b c d, the others nothing, the query is p q -/
def nd_in (a b c d p q : Nat) : Prop := a < 4 ∧ b < 4 ∧ c < 4 ∧ d < 4 ∧ p < 4 ∧ q < 4
def nd_P1 (a b c d p q : Nat) (a1 a2 a3 a4 a5 : Nat → Int32) : Prop :=
  nd_in a b c d p q ∧ nd_docs nd_N1 (nd_T a b c d p q) a1 a2 ∧ nd_qry 2 (nd_f2 p q) a4 ∧ (∀ i, i < 16 → a5 i = nI (if i = 4 * p + q then 1 else 0)) ∧
    ∃ C : Nat → Nat → Nat, (∀ k, k < 8 → ∀ i, i < 16 → a3 (16 * k + i) = nI (C k i) ∧ C k i ≤ 1000) ∧ (∀ k, k < 8 → decide (C k (4 * p + q) ≠ 0) = (decide (k = 6) && nd_BO a b c d p q))
/-- the distances of the first phase -/
theorem nd_hD {a b c d p q : Nat} : ∀ k, k < 8 → (nd_se 2 (nd_f2 p q) (nd_N1 k) (nd_T a b c d p q k)).1 = nI (if k = 6 then nd_di (nd_BO a b c d p q) (nd_AN a b c d p q) else 2) ∧ (if k = 6 then nd_di (nd_BO a b c d p q) (nd_AN a b c d p q) else 2) ≤ 2 := by
  intro k hk
  by_cases z : k = 6
  · subst z
    rw [if_pos rfl]
    refine ⟨?_, nd_di_le _ _⟩
    show (nd_se 2 (nd_f2 p q) 4 (nd_f4 a b c d)).1 = _
    rw [nd_se4]
  · rw [if_neg z]
    have e : nd_N1 k = 0 := if_neg z
    rw [e]
    exact ⟨rfl, Nat.le_refl _⟩
end
section
section
variable {post : Int32 → St0 → Prop} {mc ms kc ks : Nat} {x4 x5 x23 z0 z1 : Int32} {ql bd be xl yl : Int32} {a1 a2 a3 a4 a5 a6 a7 a8 a9 a10 : Nat → Int32} {a b c d p q : Nat}
theorem nd_wiped {N : Nat → Nat} {T : Nat → Nat → Nat} (hd : nd_docs nd_N2 T a1 a2) : nd_docs nd_N3 T (upd a1 6 0) a2 := by
  intro k hk
  obtain ⟨h0, h1, h2⟩ := hd k hk
  by_cases z : k = 6
  · subst z
    exact ⟨by decide, pk_us, fun i hi => absurd hi (by have e : nd_N3 6 = 0 := rfl; omega)⟩
  · have e : nd_N3 k = nd_N2 k := by unfold nd_N3 nd_N2; rw [if_neg z]
    rw [e, pk_un z]
    exact ⟨h0, h1, h2⟩
theorem nd_L716 (hd : nd_docs nd_N2 (nd_T a b c d p q) a1 a2) (hq : nd_qry 2 (nd_f2 p q) a4) (hz : z1 = z0) (H : post 1 ()) : wL_lawOf_716 post mc ms z0 z1 kc ks (nI 2) bd be xl yl a1 a2 a3 a4 a5 a6 a7 a8 a9 a10 := by
  have hd3 : nd_docs nd_N3 (nd_T a b c d p q) (upd a1 6 0) a2 := nd_wiped (N := nd_N2) hd
  have hq0 : nd_qry 0 (nd_f2 p q) a4 := ⟨by omega, fun i hi => absurd hi (by omega)⟩
  unfold wL_lawOf_716
  refine br_t hz ?_
  refine nd_between (k := 2) (k2 := 6) (by omega) (by omega) hd (fun xl yl b7 b8 b9 b10 => ?_)
  refine nd_between (k := 6) (k2 := 2) (by omega) (by omega) hd (fun xl yl c7 c8 c9 c10 => ?_)
  refine br_t (congrArg nI (nd_wdS a b c d q p)) ?_
  refine nd_wipe (k := 6) (x := nI 4) (by omega) (hd 6 (by omega)).2.1 (fun b3 => ?_)
  refine br_t rfl ?_
  refine nd_distance (k := 6) (by omega) hd3 hq (fun be b6 => ?_)
  refine br_t rfl ?_
  refine nd_whole (k := 6) (by omega) hd3 hq (fun xl yl d7 d8 d9 d10 => ?_)
  refine br_t (congrArg nI (nd_wd20 _)) ?_
  refine nd_between (k := 6) (k2 := 2) (by omega) (by omega) hd3 (fun xl yl e7 e8 e9 e10 => ?_)
  refine br_t (congrArg nI (nd_wd02 _)) ?_
  refine nd_clear (fun b5 => ?_)
  refine nd_distance (k := 2) (by omega) hd3 hq0 (fun be c6 => ?_)
  refine br_t rfl ?_
  refine nd_end (k := 2) (by omega) hd3 hq0 (fun bd d6 => ?_)
  refine br_t rfl ?_
  refine nd_whole (k := 2) (by omega) hd3 hq0 (fun xl yl f7 f8 f9 f10 => ?_)
  refine br_t (congrArg nI (nd_wd02 _)) ?_
  refine nd_nearest (B := 0) (D := fun _ => 0) (M := fun _ _ => false) hd3 hq0 (by omega) (fun k hk => ⟨rfl, Nat.le_refl _⟩) (fun k hk l hl bd be b6 P HP => ?_) (fun bd be b6 => ?_)
  · have e : l = 0 := by omega
    subst e
    exact nd_mayM HP
  · exact br_t (congrArg nI nd_l_nr0) H
theorem nd_L693 (hin : nd_in a b c d p q) (hd : nd_docs nd_N2 (nd_T a b c d p q) a1 a2) (hq : nd_qry 2 (nd_f2 p q) a4) (hz : z1 = z0) (H : post 1 ()) : wL_lawOf_693 post mc ms (nI p) (nI q) z0 z1 kc ks (nI 2) bd be xl yl a1 a2 a3 a4 a5 a6 a7 a8 a9 a10 := by
  obtain ⟨ha, hb, hc, hdd, hp, hqq⟩ := hin
  have e := nd_se2 p q
  unfold wL_lawOf_693
  refine br_t hz ?_
  refine nd_distance (k := 2) (by omega) hd hq (fun be b6 => ?_)
  refine pk_eq p q (fun z => ?_) (fun z => ?_)
  · rw [if_pos z] at e
    exact nd_L716 hd hq e H
  · rw [if_neg z] at e
    exact nd_L716 hd hq e H
theorem nd_docs2 (hin : nd_in a b c d p q) (hd : nd_docs nd_N1 (nd_T a b c d p q) a1 a2) : nd_docs nd_N2 (nd_T a b c d p q) (upd (upd a1 2 (nI 1)) 2 (nI 2)) (upd (upd a2 32 (nI q)) 33 (nI p)) := by
  obtain ⟨ha, hb, hc, hdd, hp, hqq⟩ := hin
  intro k hk
  obtain ⟨h0, h1, h2⟩ := hd k hk
  by_cases z : k = 2
  · subst z
    refine ⟨by decide, pk_us, nd_lt2 ⟨?_, hqq⟩ ⟨pk_us, hp⟩⟩
    exact (pk_un (by omega)).trans pk_us
  · have e : nd_N2 k = nd_N1 k := by unfold nd_N1 nd_N2; rw [if_neg z]
    rw [e, pk_un z, pk_un z]
    refine ⟨h0, h1, fun i hi => ?_⟩
    rw [pk_un (by omega), pk_un (by omega)]
    exact h2 i hi
theorem nd_L635 (h : nd_P1 a b c d p q a1 a2 a3 a4 a5) (e4 : x4 &&& 3 = nI p) (e5 : x5 &&& 3 = nI q) (hz : z1 = z0) (H : post 1 ()) : wL_lawOf_635 post mc ms x4 x5 (nI p) (nI q) z0 z1 kc ks (nI 2) bd be xl yl a1 a2 a3 a4 a5 a6 a7 a8 a9 a10 := by
  obtain ⟨hin, hd, hq, h5, C, hC, hB⟩ := h
  have hin' := hin
  obtain ⟨ha, hb, hc, hdd, hp, hqq⟩ := hin'
  have e := nd_wd2 p q
  have hd2 := nd_docs2 hin hd
  unfold wL_lawOf_635
  refine br_t hz ?_
  refine nd_within (e := 2) (D := fun k => if k = 6 then nd_di (nd_BO a b c d p q) (nd_AN a b c d p q) else 2) (M := fun _ => true) hd hq (by omega) (fun k hk => ⟨(nd_hD k hk).1, Nat.le_trans (nd_hD (a := a) (b := b) (c := c) (d := d) (p := p) (q := q) k hk).2 (by omega)⟩) (fun k hk bd be b6 P HP => ?_) (fun bd be b6 => ?_)
  · exact nd_mayE hk (by omega) h5 (hC k hk) 2 (by omega) HP
  refine br_t (congrArg nI (nd_l_wi2 _ _)) ?_
  refine nd_write0 (k := 2) (by omega) hqq e5 (hd 2 (by omega)).2.1 ?_
  refine br_t rfl ?_
  refine nd_write1 (k := 2) (n := 0) (y := q) (by omega) hp e4 (by omega) pk_us pk_us hqq ?_
  refine br_t rfl ?_
  refine nd_whole (k := 2) (by omega) hd2 hq (fun xl yl b7 b8 b9 b10 => ?_)
  refine pk_eq p q (fun z => ?_) (fun z => ?_)
  · rw [if_pos z] at e
    exact nd_L693 hin hd2 hq (congrArg nI e) H
  · rw [if_neg z] at e
    exact nd_L693 hin hd2 hq (congrArg nI e) H
theorem nd_b0 {x : Bool} {A B : Prop} (f : x = false → A) (g : x = true → B) : (nd_b x = 0 → A) ∧ (¬ nd_b x = 0 → B) := by
  cases x with
  | false => exact br_t rfl (f rfl)
  | true => exact br_f (by decide) (g rfl)
theorem nd_L616 (h : nd_P1 a b c d p q a1 a2 a3 a4 a5) (e4 : x4 &&& 3 = nI p) (e5 : x5 &&& 3 = nI q) (hz : z1 = z0) (H : post 1 ()) : wL_lawOf_616 post mc ms x4 x5 (nI p) (nI q) (nd_b (nd_AN a b c d p q)) z0 z1 kc ks (nI 2) bd be xl yl a1 a2 a3 a4 a5 a6 a7 a8 a9 a10 := by
  have h' := h
  obtain ⟨hin, hd, hq, h5, C, hC, hB⟩ := h'
  obtain ⟨ha, hb, hc, hdd, hp, hqq⟩ := hin
  have e := nd_l_wi1 (nd_BO a b c d p q) (nd_AN a b c d p q) (nd_BA a b c d p q)
  unfold wL_lawOf_616
  refine br_t hz ?_
  refine nd_within (e := 1) (D := fun k => if k = 6 then nd_di (nd_BO a b c d p q) (nd_AN a b c d p q) else 2) (M := fun _ => true) hd hq (by omega) (fun k hk => ⟨(nd_hD k hk).1, Nat.le_trans (nd_hD (a := a) (b := b) (c := c) (d := d) (p := p) (q := q) k hk).2 (by omega)⟩) (fun k hk bd be b6 P HP => ?_) (fun bd be b6 => ?_)
  · exact nd_mayE hk (by omega) h5 (hC k hk) 1 (by omega) HP
  refine nd_b0 (fun z => ?_) (fun z => ?_)
  · rw [if_neg (by rw [z]; decide)] at e
    exact nd_L635 h e4 e5 (congrArg nI e) H
  · rw [if_pos z] at e
    exact nd_L635 h e4 e5 (congrArg nI e) H
theorem nd_L597 (h : nd_P1 a b c d p q a1 a2 a3 a4 a5) (e4 : x4 &&& 3 = nI p) (e5 : x5 &&& 3 = nI q) (hz : z1 = z0) (H : post 1 ()) : wL_lawOf_597 post mc ms x4 x5 (nI p) (nI q) (nd_b (nd_BO a b c d p q)) (nd_b (nd_AN a b c d p q)) z0 z1 kc ks (nI 2) bd be xl yl a1 a2 a3 a4 a5 a6 a7 a8 a9 a10 := by
  have h' := h
  obtain ⟨hin, hd, hq, h5, C, hC, hB⟩ := h'
  obtain ⟨ha, hb, hc, hdd, hp, hqq⟩ := hin
  have e := nd_l_wi0 (nd_BO a b c d p q) (nd_AN a b c d p q)
  unfold wL_lawOf_597
  refine br_t hz ?_
  refine nd_within (e := 0) (D := fun k => if k = 6 then nd_di (nd_BO a b c d p q) (nd_AN a b c d p q) else 2) (M := fun k => decide (k = 6) && nd_BO a b c d p q) hd hq (by omega) (fun k hk => ⟨(nd_hD k hk).1, Nat.le_trans (nd_hD (a := a) (b := b) (c := c) (d := d) (p := p) (q := q) k hk).2 (by omega)⟩) (fun k hk bd be b6 P HP => ?_) (fun bd be b6 => ?_)
  · refine nd_mayE hk (by omega) h5 (hC k hk) 0 (by omega) ?_
    rw [if_pos rfl, hB k hk]
    exact HP
  refine nd_b0 (fun z => ?_) (fun z => ?_)
  · rw [if_neg (by rw [z]; decide)] at e
    exact nd_L616 h e4 e5 (congrArg nI e) H
  · rw [if_pos z] at e
    exact nd_L616 h e4 e5 (congrArg nI e) H
theorem nd_L576 (h : nd_P1 a b c d p q a1 a2 a3 a4 a5) (e4 : x4 &&& 3 = nI p) (e5 : x5 &&& 3 = nI q) (hz : z1 = z0) (H : post 1 ()) : wL_lawOf_576 post mc ms x4 x5 (nI p) (nI q) (nd_b (nd_BO a b c d p q)) (nd_b (nd_AN a b c d p q)) z0 z1 kc ks (nI 2) bd be xl yl a1 a2 a3 a4 a5 a6 a7 a8 a9 a10 := by
  have h' := h
  obtain ⟨hin, hd, hq, h5, C, hC, hB⟩ := h'
  obtain ⟨ha, hb, hc, hdd, hp, hqq⟩ := hin
  have e := nd_l_nr (nd_BO a b c d p q) (nd_AN a b c d p q) (nd_BA a b c d p q)
  unfold wL_lawOf_576
  refine br_t hz ?_
  refine nd_nearest (B := 2) (D := fun k => if k = 6 then nd_di (nd_BO a b c d p q) (nd_AN a b c d p q) else 2) (M := fun k l => if l = 0 then false else if l = 1 then (decide (k = 6) && nd_BO a b c d p q) else true) hd hq (by omega) nd_hD (fun k hk l hl bd be b6 P HP => ?_) (fun bd be b6 => ?_)
  · refine nd_mayL hk (by omega) h5 (hC k hk) l hl ?_
    rw [hB k hk]
    exact HP
  refine nd_b0 (fun z => ?_) (fun z => ?_)
  · rw [if_neg (by rw [z]; decide)] at e
    exact nd_L597 h e4 e5 (congrArg nI e) H
  · rw [if_pos z] at e
    exact nd_L597 h e4 e5 (congrArg nI e) H
theorem nd_L548 (h : nd_P1 a b c d p q a1 a2 a3 a4 a5) (e4 : x4 &&& 3 = nI p) (e5 : x5 &&& 3 = nI q) (h23 : x23 = nd_b (nd_OD a b c d p q)) (hz : z0 = nd_b (nd_SI a b c d p q)) (H : post 1 ()) :
    wL_lawOf_548 post mc ms x4 x5 (nI p) (nI q) (nd_b (nd_BO a b c d p q)) (nd_b (nd_AN a b c d p q)) x23 z0 kc ks (nI 2) bd be xl yl a1 a2 a3 a4 a5 a6 a7 a8 a9 a10 := by
  have h' := h
  obtain ⟨hin, hd, hq, h5, C, hC, hB⟩ := h'
  have e := nd_wd4 a b c d p q
  subst h23 hz
  unfold wL_lawOf_548
  refine nd_whole (k := 6) (by omega) hd hq (fun xl yl b7 b8 b9 b10 => ?_)
  refine nd_b0 (fun z => nd_b0 (fun z2 => ?_) (fun z2 => ?_)) (fun z => ?_)
  · rw [z, z2] at e
    exact nd_L576 h e4 e5 (congrArg nI e) H
  · rw [z, z2] at e
    exact nd_L576 h e4 e5 (congrArg nI e) H
  · rw [z] at e
    exact nd_L576 h e4 e5 (congrArg nI e) H
end
end
section
section
variable {post : Int32 → St0 → Prop} {mc ms kc ks : Nat} {x4 x5 x7 x8 x9 x10 x11 x12 x13 x14 x16 x17 x18 x19 x20 x21 x23 z0 z1 : Int32} {ql bd be xl yl : Int32} {a1 a2 a3 a4 a5 a6 a7 a8 a9 a10 : Nat → Int32} {a b c d p q : Nat}
theorem nd_L499 (h : nd_P1 a b c d p q a1 a2 a3 a4 a5) (e4 : x4 &&& 3 = nI p) (e5 : x5 &&& 3 = nI q) (hz : z0 = nd_b (nd_OD a b c d p q)) (H : post 1 ()) :
    wL_lawOf_499 post mc ms x4 x5 (nI a) (nI b) (nI c) (nI d) (nI p) (nI q) (nd_b (nd_BO a b c d p q)) (nd_b (nd_AN a b c d p q)) z0 kc ks (nI 2) bd be xl yl a1 a2 a3 a4 a5 a6 a7 a8 a9 a10 := by
  have h' := h
  obtain ⟨⟨ha, hb, hc, hdd, hp, hqq⟩, _⟩ := h'
  have t1 : nd_SI a b c d p q = true → wL_lawOf_543 post mc ms x4 x5 (nI p) (nI q) (nd_b (nd_BO a b c d p q)) (nd_b (nd_AN a b c d p q)) z0 kc ks (nI 2) bd be xl yl a1 a2 a3 a4 a5 a6 a7 a8 a9 a10 := fun z => nd_L548 h e4 e5 hz (by rw [z]; rfl) H
  unfold wL_lawOf_499
  refine pk_eq a p (fun z => t1 (by unfold nd_SI nd_si; simp [z])) (fun y1 => ?_)
  refine pk_eq b p (fun z => t1 (by unfold nd_SI nd_si; simp [z])) (fun y2 => ?_)
  refine pk_eq c p (fun z => t1 (by unfold nd_SI nd_si; simp [z])) (fun y3 => ?_)
  refine pk_eq b q (fun z => t1 (by unfold nd_SI nd_si; simp [z])) (fun y4 => ?_)
  refine pk_eq c q (fun z => t1 (by unfold nd_SI nd_si; simp [z])) (fun y5 => ?_)
  refine pk_eq d q (fun z => t1 (by unfold nd_SI nd_si; simp [z])) (fun y6 => ?_)
  refine nd_L548 h e4 e5 hz ?_ H
  rw [show nd_SI a b c d p q = false by unfold nd_SI nd_si; simp [y1, y2, y3, y4, y5, y6]]
  rfl
theorem nd_L494 (h : nd_P1 a b c d p q a1 a2 a3 a4 a5) (e4 : x4 &&& 3 = nI p) (e5 : x5 &&& 3 = nI q) (hz : nd_OD a b c d p q = true) (H : post 1 ()) :
    wL_lawOf_494 post mc ms x4 x5 (nI a) (nI b) (nI c) (nI d) (nI p) (nI q) (nd_b (nd_BO a b c d p q)) (nd_b (nd_AN a b c d p q)) kc ks (nI 2) bd be xl yl a1 a2 a3 a4 a5 a6 a7 a8 a9 a10 := nd_L499 h e4 e5 (by rw [hz]; rfl) H
theorem nd_L498 (h : nd_P1 a b c d p q a1 a2 a3 a4 a5) (e4 : x4 &&& 3 = nI p) (e5 : x5 &&& 3 = nI q) (hz : nd_OD a b c d p q = false) (H : post 1 ()) :
    wL_lawOf_498 post mc ms x4 x5 (nI a) (nI b) (nI c) (nI d) (nI p) (nI q) (nd_b (nd_BO a b c d p q)) (nd_b (nd_AN a b c d p q)) kc ks (nI 2) bd be xl yl a1 a2 a3 a4 a5 a6 a7 a8 a9 a10 := nd_L499 h e4 e5 (by rw [hz]; rfl) H
theorem nd_L480 (h : nd_P1 a b c d p q a1 a2 a3 a4 a5) (e4 : x4 &&& 3 = nI p) (e5 : x5 &&& 3 = nI q) (g1 : ¬ (a = p ∧ (b = q ∨ c = q ∨ d = q))) (g2 : ¬ (b = p ∧ (c = q ∨ d = q))) (H : post 1 ()) :
    wL_lawOf_480 post mc ms x4 x5 (nI a) (nI b) (nI c) (nI d) (nI p) (nI q) (nd_b (nd_BO a b c d p q)) (nd_b (nd_AN a b c d p q)) kc ks (nI 2) bd be xl yl a1 a2 a3 a4 a5 a6 a7 a8 a9 a10 := by
  have h' := h
  obtain ⟨⟨ha, hb, hc, hdd, hp, hqq⟩, _⟩ := h'
  have e : nd_OD a b c d p q = (decide (c = p) && decide (d = q)) := by
    have k1 : (decide (a = p) && (decide (b = q) || decide (c = q) || decide (d = q))) = false := by
      rw [Bool.eq_false_iff]
      intro z
      rw [Bool.and_eq_true, Bool.or_eq_true, Bool.or_eq_true, decide_eq_true_iff, decide_eq_true_iff, decide_eq_true_iff, decide_eq_true_iff, or_assoc] at z
      exact g1 z
    have k2 : (decide (b = p) && (decide (c = q) || decide (d = q))) = false := by
      rw [Bool.eq_false_iff]
      intro z
      rw [Bool.and_eq_true, Bool.or_eq_true, decide_eq_true_iff, decide_eq_true_iff, decide_eq_true_iff] at z
      exact g2 z
    unfold nd_OD nd_or
    rw [k1, k2, Bool.false_or, Bool.false_or]
  unfold wL_lawOf_480
  refine pk_eq c p (fun z => pk_eq d q (fun z2 => nd_L494 h e4 e5 ?_ H) (fun z2 => nd_L498 h e4 e5 ?_ H)) (fun z => nd_L498 h e4 e5 ?_ H)
  · rw [e, decide_eq_true z, decide_eq_true z2]
    rfl
  · rw [e, decide_eq_true z, decide_eq_false z2]
    rfl
  · rw [e, decide_eq_false z]
    rfl
theorem nd_L459 (h : nd_P1 a b c d p q a1 a2 a3 a4 a5) (e4 : x4 &&& 3 = nI p) (e5 : x5 &&& 3 = nI q) (g1 : ¬ (a = p ∧ (b = q ∨ c = q ∨ d = q))) (H : post 1 ()) :
    wL_lawOf_459 post mc ms x4 x5 (nI a) (nI b) (nI c) (nI d) (nI p) (nI q) (nd_b (nd_BO a b c d p q)) (nd_b (nd_AN a b c d p q)) kc ks (nI 2) bd be xl yl a1 a2 a3 a4 a5 a6 a7 a8 a9 a10 := by
  have h' := h
  obtain ⟨⟨ha, hb, hc, hdd, hp, hqq⟩, _⟩ := h'
  unfold wL_lawOf_459
  refine pk_eq b p (fun z => pk_eq c q (fun z2 => nd_L494 h e4 e5 ?_ H) (fun z2 => pk_eq d q (fun z3 => nd_L494 h e4 e5 ?_ H) (fun z3 => nd_L480 h e4 e5 g1 (by omega) H))) (fun z => nd_L480 h e4 e5 g1 (by omega) H)
  · unfold nd_OD nd_or
    rw [decide_eq_true z, decide_eq_true z2]
    simp
  · unfold nd_OD nd_or
    rw [decide_eq_true z, decide_eq_true z3]
    simp
theorem nd_L426 (h : nd_P1 a b c d p q a1 a2 a3 a4 a5) (e4 : x4 &&& 3 = nI p) (e5 : x5 &&& 3 = nI q) (hz : z1 = z0) (H : post 1 ()) :
    wL_lawOf_426 post mc ms x4 x5 (nI a) (nI b) (nI c) (nI d) (nI p) (nI q) (nd_b (nd_BO a b c d p q)) (nd_b (nd_AN a b c d p q)) z0 z1 kc ks (nI 2) bd be xl yl a1 a2 a3 a4 a5 a6 a7 a8 a9 a10 := by
  have h' := h
  obtain ⟨⟨ha, hb, hc, hdd, hp, hqq⟩, _⟩ := h'
  unfold wL_lawOf_426
  refine br_t hz ?_
  refine pk_eq a p (fun z => pk_eq b q (fun z2 => nd_L494 h e4 e5 ?_ H) (fun z2 => pk_eq c q (fun z3 => nd_L494 h e4 e5 ?_ H) (fun z3 => pk_eq d q (fun z4 => nd_L494 h e4 e5 ?_ H) (fun z4 => nd_L459 h e4 e5 (by omega) H)))) (fun z => nd_L459 h e4 e5 (by omega) H)
  · unfold nd_OD nd_or
    rw [decide_eq_true z, decide_eq_true z2]
    simp
  · unfold nd_OD nd_or
    rw [decide_eq_true z, decide_eq_true z3]
    simp
  · unfold nd_OD nd_or
    rw [decide_eq_true z, decide_eq_true z4]
    simp
theorem nd_L395 (h : nd_P1 a b c d p q a1 a2 a3 a4 a5) (e4 : x4 &&& 3 = nI p) (e5 : x5 &&& 3 = nI q) (hz : z0 = nI (nd_EN a b c d p q)) (H : post 1 ()) :
    wL_lawOf_395 post mc ms x4 x5 (nI a) (nI b) (nI c) (nI d) (nI p) (nI q) (nd_b (nd_BO a b c d p q)) (nd_b (nd_AN a b c d p q)) z0 kc ks (nI 2) bd be xl yl a1 a2 a3 a4 a5 a6 a7 a8 a9 a10 := by
  have h' := h
  obtain ⟨hin, hd, hq, h5, C, hC, hB⟩ := h'
  obtain ⟨ha, hb, hc, hdd, hp, hqq⟩ := hin
  have e : (nd_se 2 (nd_f2 p q) 4 (nd_f4 a b c d)).2 = z0 := by rw [nd_se4, hz]
  have e6 : decide (C 6 (4 * p + q) ≠ 0) = nd_BO a b c d p q := (hB 6 (by omega)).trans (by rw [decide_eq_true (rfl : 6 = 6)]; rfl)
  unfold wL_lawOf_395
  refine nd_end (k := 6) (by omega) hd hq (fun bd b6 => ?_)
  refine br_t e ?_
  refine nd_pairs (k := 6) (K := 4 * p + q) (C := C 6) (by omega) (by omega) h5 (hC 6 (by omega)) ?_
  rw [e6]
  exact nd_b0 (fun z => nd_L426 h e4 e5 (by rw [z]; rfl) H) (fun z => nd_L426 h e4 e5 (by rw [z]; rfl) H)
theorem nd_g326 {one two bo wa wb wc wd : Bool} (hz : z1 = z0) (H : ∀ z, z = nI (nd_en one two bo wa wb wc wd) → wL_lawOf_395 post mc ms x4 x5 x7 x8 x9 x10 x11 x12 (nd_b bo) x21 z kc ks ql bd be xl yl a1 a2 a3 a4 a5 a6 a7 a8 a9 a10) :
    wL_lawOf_326 post mc ms x4 x5 x7 x8 x9 x10 x11 x12 (nd_b one) (nd_b two) (nd_b bo) (nd_b wa) (nd_b wb) (nd_b wc) (nd_b wd) x21 z0 z1 kc ks ql bd be xl yl a1 a2 a3 a4 a5 a6 a7 a8 a9 a10 := by
  unfold wL_lawOf_326
  refine br_t hz (nd_b0 (fun h0 => ?_) (fun h0 => ?_))
  · subst h0
    refine nd_b0 (fun h1 => ?_) (fun h1 => ?_)
    · subst h1
      refine nd_b0 (fun h2 => ?_) (fun h2 => ?_)
      · subst h2
        refine nd_b0 (fun h3 => ?_) (fun h3 => ?_)
        · subst h3
          refine nd_b0 (fun h4 => ?_) (fun h4 => ?_)
          · subst h4
            exact H 0 rfl
          · subst h4
            exact H 4 rfl
        · subst h3
          exact H 3 rfl
      · subst h2
        exact H 2 rfl
    · subst h1
      exact H 1 rfl
  · subst h0
    refine nd_b0 (fun h1 => ?_) (fun h1 => ?_)
    · subst h1
      refine nd_b0 (fun h2 => ?_) (fun h2 => ?_)
      · subst h2
        exact H 4 rfl
      · subst h2
        exact H 3 rfl
    · subst h1
      exact H 2 rfl
theorem nd_L298 (h : nd_P1 a b c d p q a1 a2 a3 a4 a5) (e4 : x4 &&& 3 = nI p) (e5 : x5 &&& 3 = nI q) (hz : z0 = nd_b (nd_AN a b c d p q)) (H : post 1 ()) :
    wL_lawOf_298 post mc ms x4 x5 (nI a) (nI b) (nI c) (nI d) (nI p) (nI q) (nd_b (decide (a = p) && decide (b = q))) (nd_b (decide (b = p) && decide (c = q))) (nd_b (nd_BO a b c d p q)) (nd_b (decide (a = p) || decide (a = q))) (nd_b (decide (b = p) || decide (b = q))) (nd_b (decide (c = p) || decide (c = q))) (nd_b (decide (d = p) || decide (d = q))) z0 kc ks (nI 2) bd be xl yl a1 a2 a3 a4 a5 a6 a7 a8 a9 a10 := by
  have h' := h
  obtain ⟨hin, hd, hq, h5, C, hC, hB⟩ := h'
  obtain ⟨ha, hb, hc, hdd, hp, hqq⟩ := hin
  have e : (nd_se 2 (nd_f2 p q) 4 (nd_f4 a b c d)).1 = nI (nd_di (nd_BO a b c d p q) (nd_AN a b c d p q)) := by rw [nd_se4]
  subst hz
  unfold wL_lawOf_298
  refine nd_distance (k := 6) (by omega) hd hq (fun be b6 => ?_)
  refine nd_b0 (fun h0 => nd_b0 (fun h1 => ?_) (fun h1 => ?_)) (fun h0 => ?_)
  · exact nd_g326 (e.trans (by rw [h0, h1]; rfl)) (fun z hz => nd_L395 h e4 e5 hz H)
  · exact nd_g326 (e.trans (by rw [h0, h1]; rfl)) (fun z hz => nd_L395 h e4 e5 hz H)
  · exact nd_g326 (e.trans (by rw [h0]; rfl)) (fun z hz => nd_L395 h e4 e5 hz H)
theorem nd_g271 {wa wb wc wd : Bool} (H : ∀ z, z = nd_b (wa || wb || wc || wd) → wL_lawOf_298 post mc ms x4 x5 x7 x8 x9 x10 x11 x12 x13 x14 x16 (nd_b wa) (nd_b wb) (nd_b wc) (nd_b wd) z kc ks ql bd be xl yl a1 a2 a3 a4 a5 a6 a7 a8 a9 a10) :
    wL_lawOf_271 post mc ms x4 x5 x7 x8 x9 x10 x11 x12 x13 x14 x16 (nd_b wa) (nd_b wb) (nd_b wc) (nd_b wd) kc ks ql bd be xl yl a1 a2 a3 a4 a5 a6 a7 a8 a9 a10 := by
  unfold wL_lawOf_271
  refine nd_b0 (fun h1 => nd_b0 (fun h2 => nd_b0 (fun h3 => nd_b0 (fun h4 => ?_) (fun h4 => ?_)) (fun h3 => ?_)) (fun h2 => ?_)) (fun h1 => ?_)
  · subst h1 h2 h3 h4
    exact H 0 rfl
  · subst h1 h2 h3 h4
    exact H 1 rfl
  · subst h1 h2 h3
    exact H 1 rfl
  · subst h1 h2
    exact H 1 (by cases wc <;> cases wd <;> rfl)
  · subst h1
    exact H 1 (by cases wb <;> cases wc <;> cases wd <;> rfl)
theorem nd_or0 {x y u v : Nat} {A B C : Prop} (hx : x < 4) (hy : y < 4) (hu : u < 4) (f : ∀ z, z = nd_b (decide (x = y) || decide (x = u)) → z = 1 → A) (g : ∀ z, z = nd_b (decide (x = y) || decide (x = u)) → z = 0 → B) :
    (nI x = nI y → A) ∧ (¬ nI x = nI y → ((nI x = nI u → A) ∧ (¬ nI x = nI u → B))) := by
  refine pk_eq x y (fun z => f 1 ?_ rfl) (fun z => pk_eq x u (fun z2 => f 1 ?_ rfl) (fun z2 => g 0 ?_ rfl))
  · rw [decide_eq_true z]
    rfl
  · rw [decide_eq_true z2, Bool.or_true]
    rfl
  · rw [decide_eq_false z, decide_eq_false z2]
    rfl
theorem nd_and0 {x y u v : Nat} {A B : Prop} (hx : x < 4) (hy : y < 4) (hu : u < 4) (hv : v < 4) (f : 1 = nd_b (decide (x = y) && decide (u = v)) → A) (g : 0 = nd_b (decide (x = y) && decide (u = v)) → B) :
    (nI x = nI y → ((nI u = nI v → A) ∧ (¬ nI u = nI v → B))) ∧ (¬ nI x = nI y → B) := by
  refine pk_eq x y (fun z => pk_eq u v (fun z2 => f ?_) (fun z2 => g ?_)) (fun z => g ?_)
  · rw [decide_eq_true z, decide_eq_true z2]
    rfl
  · rw [decide_eq_true z, decide_eq_false z2]
    rfl
  · rw [decide_eq_false z]
    rfl
theorem nd_L271 (h : nd_P1 a b c d p q a1 a2 a3 a4 a5) (e4 : x4 &&& 3 = nI p) (e5 : x5 &&& 3 = nI q) (hz : z0 = nd_b (decide (d = p) || decide (d = q))) (H : post 1 ()) :
    wL_lawOf_271 post mc ms x4 x5 (nI a) (nI b) (nI c) (nI d) (nI p) (nI q) (nd_b (decide (a = p) && decide (b = q))) (nd_b (decide (b = p) && decide (c = q))) (nd_b (nd_BO a b c d p q)) (nd_b (decide (a = p) || decide (a = q))) (nd_b (decide (b = p) || decide (b = q))) (nd_b (decide (c = p) || decide (c = q))) z0 kc ks (nI 2) bd be xl yl a1 a2 a3 a4 a5 a6 a7 a8 a9 a10 := by
  subst hz
  exact nd_g271 (fun z hz => nd_L298 h e4 e5 hz H)
theorem nd_L250 (h : nd_P1 a b c d p q a1 a2 a3 a4 a5) (e4 : x4 &&& 3 = nI p) (e5 : x5 &&& 3 = nI q) (hz : z0 = nd_b (decide (c = p) || decide (c = q))) (H : post 1 ()) :
    wL_lawOf_250 post mc ms x4 x5 (nI a) (nI b) (nI c) (nI d) (nI p) (nI q) (nd_b (decide (a = p) && decide (b = q))) (nd_b (decide (b = p) && decide (c = q))) (nd_b (nd_BO a b c d p q)) (nd_b (decide (a = p) || decide (a = q))) (nd_b (decide (b = p) || decide (b = q))) z0 kc ks (nI 2) bd be xl yl a1 a2 a3 a4 a5 a6 a7 a8 a9 a10 := by
  have h' := h
  obtain ⟨⟨ha, hb, hc, hdd, hp, hqq⟩, _⟩ := h'
  subst hz
  unfold wL_lawOf_250
  refine nd_or0 (x := d) (y := p) (u := q) (v := 0) (C := True) hdd hp hqq (fun z hz z1 => ?_) (fun z hz z1 => ?_)
  · subst z1
    exact nd_L271 h e4 e5 hz H
  · subst z1
    exact nd_L271 h e4 e5 hz H
theorem nd_L229 (h : nd_P1 a b c d p q a1 a2 a3 a4 a5) (e4 : x4 &&& 3 = nI p) (e5 : x5 &&& 3 = nI q) (hz : z0 = nd_b (decide (b = p) || decide (b = q))) (H : post 1 ()) :
    wL_lawOf_229 post mc ms x4 x5 (nI a) (nI b) (nI c) (nI d) (nI p) (nI q) (nd_b (decide (a = p) && decide (b = q))) (nd_b (decide (b = p) && decide (c = q))) (nd_b (nd_BO a b c d p q)) (nd_b (decide (a = p) || decide (a = q))) z0 kc ks (nI 2) bd be xl yl a1 a2 a3 a4 a5 a6 a7 a8 a9 a10 := by
  have h' := h
  obtain ⟨⟨ha, hb, hc, hdd, hp, hqq⟩, _⟩ := h'
  subst hz
  unfold wL_lawOf_229
  refine nd_or0 (x := c) (y := p) (u := q) (v := 0) (C := True) hc hp hqq (fun z hz z1 => ?_) (fun z hz z1 => ?_)
  · subst z1
    exact nd_L250 h e4 e5 hz H
  · subst z1
    exact nd_L250 h e4 e5 hz H
theorem nd_L208 (h : nd_P1 a b c d p q a1 a2 a3 a4 a5) (e4 : x4 &&& 3 = nI p) (e5 : x5 &&& 3 = nI q) (hz : z0 = nd_b (decide (a = p) || decide (a = q))) (H : post 1 ()) :
    wL_lawOf_208 post mc ms x4 x5 (nI a) (nI b) (nI c) (nI d) (nI p) (nI q) (nd_b (decide (a = p) && decide (b = q))) (nd_b (decide (b = p) && decide (c = q))) (nd_b (nd_BO a b c d p q)) z0 kc ks (nI 2) bd be xl yl a1 a2 a3 a4 a5 a6 a7 a8 a9 a10 := by
  have h' := h
  obtain ⟨⟨ha, hb, hc, hdd, hp, hqq⟩, _⟩ := h'
  subst hz
  unfold wL_lawOf_208
  refine nd_or0 (x := b) (y := p) (u := q) (v := 0) (C := True) hb hp hqq (fun z hz z1 => ?_) (fun z hz z1 => ?_)
  · subst z1
    exact nd_L229 h e4 e5 hz H
  · subst z1
    exact nd_L229 h e4 e5 hz H
theorem nd_L187 (h : nd_P1 a b c d p q a1 a2 a3 a4 a5) (e4 : x4 &&& 3 = nI p) (e5 : x5 &&& 3 = nI q) (hz : z0 = nd_b (nd_BO a b c d p q)) (H : post 1 ()) :
    wL_lawOf_187 post mc ms x4 x5 (nI a) (nI b) (nI c) (nI d) (nI p) (nI q) (nd_b (decide (a = p) && decide (b = q))) (nd_b (decide (b = p) && decide (c = q))) z0 kc ks (nI 2) bd be xl yl a1 a2 a3 a4 a5 a6 a7 a8 a9 a10 := by
  have h' := h
  obtain ⟨⟨ha, hb, hc, hdd, hp, hqq⟩, _⟩ := h'
  subst hz
  unfold wL_lawOf_187
  refine nd_or0 (x := a) (y := p) (u := q) (v := 0) (C := True) ha hp hqq (fun z hz z1 => ?_) (fun z hz z1 => ?_)
  · subst z1
    exact nd_L208 h e4 e5 hz H
  · subst z1
    exact nd_L208 h e4 e5 hz H
theorem nd_g165 {o t r : Bool} (H : ∀ z, z = nd_b (o || t || r) → wL_lawOf_187 post mc ms x4 x5 x7 x8 x9 x10 x11 x12 (nd_b o) (nd_b t) z kc ks ql bd be xl yl a1 a2 a3 a4 a5 a6 a7 a8 a9 a10) :
    wL_lawOf_165 post mc ms x4 x5 x7 x8 x9 x10 x11 x12 (nd_b o) (nd_b t) (nd_b r) kc ks ql bd be xl yl a1 a2 a3 a4 a5 a6 a7 a8 a9 a10 := by
  unfold wL_lawOf_165
  refine nd_b0 (fun h1 => nd_b0 (fun h2 => nd_b0 (fun h3 => ?_) (fun h3 => ?_)) (fun h2 => ?_)) (fun h1 => ?_)
  · subst h1 h2 h3
    exact H 0 rfl
  · subst h1 h2 h3
    exact H 1 rfl
  · subst h1 h2
    exact H 1 (by cases r <;> rfl)
  · subst h1
    exact H 1 (by cases t <;> cases r <;> rfl)
theorem nd_L165 (h : nd_P1 a b c d p q a1 a2 a3 a4 a5) (e4 : x4 &&& 3 = nI p) (e5 : x5 &&& 3 = nI q) (hz : z0 = nd_b (decide (c = p) && decide (d = q))) (H : post 1 ()) :
    wL_lawOf_165 post mc ms x4 x5 (nI a) (nI b) (nI c) (nI d) (nI p) (nI q) (nd_b (decide (a = p) && decide (b = q))) (nd_b (decide (b = p) && decide (c = q))) z0 kc ks (nI 2) bd be xl yl a1 a2 a3 a4 a5 a6 a7 a8 a9 a10 := by
  subst hz
  exact nd_g165 (fun z hz => nd_L187 h e4 e5 hz H)
theorem nd_L144 (h : nd_P1 a b c d p q a1 a2 a3 a4 a5) (e4 : x4 &&& 3 = nI p) (e5 : x5 &&& 3 = nI q) (hz : z0 = nd_b (decide (b = p) && decide (c = q))) (H : post 1 ()) :
    wL_lawOf_144 post mc ms x4 x5 (nI a) (nI b) (nI c) (nI d) (nI p) (nI q) (nd_b (decide (a = p) && decide (b = q))) z0 kc ks (nI 2) bd be xl yl a1 a2 a3 a4 a5 a6 a7 a8 a9 a10 := by
  have h' := h
  obtain ⟨⟨ha, hb, hc, hdd, hp, hqq⟩, _⟩ := h'
  subst hz
  unfold wL_lawOf_144
  exact nd_and0 hc hp hdd hqq (fun z => nd_L165 h e4 e5 z H) (fun z => nd_L165 h e4 e5 z H)
theorem nd_L123 (h : nd_P1 a b c d p q a1 a2 a3 a4 a5) (e4 : x4 &&& 3 = nI p) (e5 : x5 &&& 3 = nI q) (hz : z0 = nd_b (decide (a = p) && decide (b = q))) (H : post 1 ()) :
    wL_lawOf_123 post mc ms x4 x5 (nI a) (nI b) (nI c) (nI d) (nI p) (nI q) z0 kc ks (nI 2) bd be xl yl a1 a2 a3 a4 a5 a6 a7 a8 a9 a10 := by
  have h' := h
  obtain ⟨⟨ha, hb, hc, hdd, hp, hqq⟩, _⟩ := h'
  subst hz
  unfold wL_lawOf_123
  exact nd_and0 hb hp hc hqq (fun z => nd_L144 h e4 e5 z H) (fun z => nd_L144 h e4 e5 z H)
end
end
section
/-- one more at one place -/
theorem nd_inc {f : Nat → Int32} {G : Nat → Nat} (h : ∀ j, f j = nI (G j)) (x : Nat) : ∀ j, upd f x (f x + 1) j = nI (G j + (if j = x then 1 else 0)) := by
  intro j
  by_cases c : j = x
  · rw [if_pos c, c, pk_us, h x, nI_1]
  · rw [if_neg c, pk_un c, h j]
    rfl
def nd_a1 : Nat → Int32 := upd (upd (upd (upd (fun _ => 0) 6 (nI 1)) 6 (nI (0 + 2))) 6 (nI (1 + 2))) 6 (nI (2 + 2))
def nd_a2 (a b c d : Nat) : Nat → Int32 := upd (upd (upd (upd (fun _ => 0) (16 * 6) (nI a)) (16 * 6 + (0 + 1)) (nI b)) (16 * 6 + (1 + 1)) (nI c)) (16 * 6 + (2 + 1)) (nI d)
def nd_i3 (f : Nat → Int32) (x : Nat) : Nat → Int32 := upd f x (f x + 1)
def nd_a3 (a b c d : Nat) : Nat → Int32 := nd_i3 (nd_i3 (nd_i3 (fun _ => 0) (16 * 6 + 4 * a + b)) (16 * 6 + 4 * b + c)) (16 * 6 + 4 * c + d)
def nd_C (a b c d : Nat) (k i : Nat) : Nat := ((0 + (if 16 * k + i = 16 * 6 + 4 * a + b then 1 else 0)) + (if 16 * k + i = 16 * 6 + 4 * b + c then 1 else 0)) + (if 16 * k + i = 16 * 6 + 4 * c + d then 1 else 0)
theorem nd_first {a b c d p q : Nat} (hin : nd_in a b c d p q) : nd_P1 a b c d p q nd_a1 (nd_a2 a b c d) (nd_a3 a b c d) (upd (upd (fun _ => 0) 0 (nI p)) 1 (nI q)) (nd_i3 (fun _ => 0) (4 * p + q)) := by
  have hin' := hin
  obtain ⟨ha, hb, hc, hd, hp, hq⟩ := hin'
  refine ⟨hin, ?_, ?_, ?_, nd_C a b c d, ?_, ?_⟩
  · intro k hk
    by_cases z : k = 6
    · subst z
      refine ⟨by decide, pk_us, nd_lt4 ⟨?_, ha⟩ ⟨?_, hb⟩ ⟨?_, hc⟩ ⟨pk_us, hd⟩⟩
      · exact (pk_un (by omega)).trans ((pk_un (by omega)).trans ((pk_un (by omega)).trans pk_us))
      · exact (pk_un (by omega)).trans ((pk_un (by omega)).trans pk_us)
      · exact (pk_un (by omega)).trans pk_us
    · have e : nd_N1 k = 0 := if_neg z
      rw [e]
      exact ⟨by omega, (pk_un z).trans ((pk_un z).trans ((pk_un z).trans (pk_un z))), fun i hi => absurd hi (by omega)⟩
  · exact ⟨by omega, nd_lt2 ⟨(pk_un (by omega)).trans pk_us, hp⟩ ⟨pk_us, hq⟩⟩
  · intro i hi
    have t := nd_inc (f := fun _ => 0) (G := fun _ => 0) (fun _ => rfl) (4 * p + q) i
    rw [Nat.zero_add] at t
    exact t
  · intro k hk i hi
    refine ⟨nd_inc (nd_inc (nd_inc (f := fun _ => 0) (G := fun _ => 0) (fun _ => rfl) _) _) _ (16 * k + i), ?_⟩
    unfold nd_C
    split <;> split <;> split <;> omega
  · intro k hk
    have hR : nd_BO a b c d p q = true ↔ ((a = p ∧ b = q) ∨ (b = p ∧ c = q) ∨ (c = p ∧ d = q)) := by
      unfold nd_BO nd_bo
      rw [Bool.or_eq_true, Bool.or_eq_true, Bool.and_eq_true, Bool.and_eq_true, Bool.and_eq_true, decide_eq_true_iff, decide_eq_true_iff, decide_eq_true_iff, decide_eq_true_iff, decide_eq_true_iff, decide_eq_true_iff, or_assoc]
    rw [Bool.eq_iff_iff, decide_eq_true_iff, Bool.and_eq_true, decide_eq_true_iff, hR]
    unfold nd_C
    split <;> split <;> split <;> omega
theorem nd_lawOf {post : Int32 → St0 → Prop} (p0 p1 p2 p3 p4 p5 : Int32) (H : post 1 ()) : wpL_lawOf post 11 373 () p0 p1 p2 p3 p4 p5 := by
  obtain ⟨a, ha, ea⟩ := pk_andE p0 (m := 3) 2 (by decide)
  obtain ⟨b, hb, eb⟩ := pk_andE p1 (m := 3) 2 (by decide)
  obtain ⟨c, hc, ec⟩ := pk_andE p2 (m := 3) 2 (by decide)
  obtain ⟨d, hd, ed⟩ := pk_andE p3 (m := 3) 2 (by decide)
  obtain ⟨p, hp, ep⟩ := pk_andE p4 (m := 3) 2 (by decide)
  obtain ⟨q, hq, eq⟩ := pk_andE p5 (m := 3) 2 (by decide)
  have hin : nd_in a b c d p q := ⟨ha, hb, hc, hd, hp, hq⟩
  have hP := nd_first hin
  unfold wpL_lawOf
  refine ⟨by omega, by omega, 10, 358, by omega, by omega, ?_⟩
  unfold wpX_init
  refine ⟨by omega, by omega, by omega, by omega, by omega, by omega, by omega, by omega, by omega, by omega, by omega, by omega, by omega, by omega, by omega, by omega, by omega, by omega, by omega, by omega, ?_⟩
  refine nm_r ea (nm_r eb (nm_r ec (nm_r ed (nm_r ep (nm_r eq ?_)))))
  refine nd_write0 (k := 6) (by omega) ha ea rfl ?_
  refine nd_write1 (k := 6) (n := 0) (y := a) (by omega) hb eb (by omega) pk_us pk_us ha ?_
  refine nd_write1 (k := 6) (n := 1) (y := b) (by omega) hc ec (by omega) pk_us pk_us hb ?_
  refine nd_write1 (k := 6) (n := 2) (y := c) (by omega) hd ed (by omega) pk_us pk_us hc ?_
  refine br_t rfl ?_
  refine nd_type0 ep ?_
  refine br_t rfl ?_
  refine nd_type1 eq hq pk_us hp ?_
  refine br_t rfl ?_
  exact nd_and0 ha hp hb hq (fun z => nd_L123 hP ep eq z H) (fun z => nd_L123 hP ep eq z H)
theorem nd_cellAt {P : Int32 → Prop} {L : Nat} {xs : Nat → Int32} (i : Nat) (hi : i < 6) (hL : L ≤ 6) (H : ∀ v, P v) : wpL_cellAt P L xs () (nI i) :=
  pk_le L i (fun _ => H 0) (fun z => ⟨pk_in i L z, H _⟩)
theorem i_vc (xs : Nat → Int32) (L : Nat) (hL : L ≤ 6) : wpL_law (fun r => r = 1) L xs := by
  unfold wpL_law
  exact nd_cellAt 0 (by omega) hL (fun v0 => nd_cellAt 1 (by omega) hL (fun v1 => nd_cellAt 2 (by omega) hL (fun v2 => nd_cellAt 3 (by omega) hL (fun v3 => nd_cellAt 4 (by omega) hL (fun v4 => nd_cellAt 5 (by omega) hL (fun v5 => ⟨11, 373, by omega, by omega, nd_lawOf v0 v1 v2 v3 v4 v5 rfl⟩))))))
end
