section
/-! numbers, stores, rows of a store; what SET and TAKE do to two cells -/
theorem tg_48 (r i : Nat) : nI r * 48 + nI i = nI (r * 48 + i) := by
  rw [show (48 : Int32) = nI 48 from rfl, pk_mul, nI_add]
theorem tg_8 (r i : Nat) : nI r * 8 + nI i = nI (r * 8 + i) := by
  rw [show (8 : Int32) = nI 8 from rfl, pk_mul, nI_add]
theorem tg_4 (r i : Nat) : nI r * 4 + nI i = nI (r * 4 + i) := by
  rw [show (4 : Int32) = nI 4 from rfl, pk_mul, nI_add]
theorem tg_48p (r i : Nat) : nI r * 48 + nI (i + 1) - 1 = nI (r * 48 + i) := by
  rw [tg_48, ← Nat.add_assoc, nI_pred]
theorem tg_48z (r : Nat) : nI r * 48 = nI (r * 48 + 0) := by
  rw [show (48 : Int32) = nI 48 from rfl, pk_mul, Nat.add_zero]
theorem tg_m1 {m k : Nat} (h : m ≤ k) (hk : k < 2 ^ 31) : nI m - 1 < nI k := by
  cases m with
  | zero =>
    have e : (nI 0 - 1).toInt = -1 := by decide
    rw [Int32.lt_iff_toInt_lt, nI_toInt hk, e]
    omega
  | succ m =>
    rw [nI_pred]
    exact nI_lt (by omega) hk
theorem tg_m2 {k : Nat} (hk : k < 2 ^ 31) : nI 0 + (-1) < nI k := by
  have e : (nI 0 + (-1)).toInt = -1 := by decide
  rw [Int32.lt_iff_toInt_lt, nI_toInt hk, e]
  omega
theorem tg_and7 {c : Nat} (hc : c < 7) : (nI c + 1) &&& 7 = nI (c + 1) := by
  rw [nI_1, pk_andN (by omega) 3 (by decide), Nat.mod_eq_of_lt (by omega)]
theorem tg_us {f : Nat → Int32} {k : Nat} {x : Int32} (h : f k = x) : upd f k x = f := by
  funext j
  unfold upd
  by_cases e : j = k
  · rw [if_pos e, e, h]
  · rw [if_neg e]
/-- the places b .. b + n - 1 of f hold g 0 .. g (n - 1) -/
def tg_put (f : Nat → Int32) (b : Nat) (g : Nat → Int32) (n : Nat) : Nat → Int32 := fun j => if b ≤ j ∧ j < b + n then g (j - b) else f j
theorem tg_put0 (f : Nat → Int32) (b : Nat) (g : Nat → Int32) : f = tg_put f b g 0 := by
  funext j
  unfold tg_put
  rw [if_neg (by omega)]
theorem tg_putS (f : Nat → Int32) (b : Nat) (g : Nat → Int32) (i : Nat) : upd (tg_put f b g i) (b + i) (g i) = tg_put f b g (i + 1) := by
  funext j
  unfold tg_put upd
  dsimp only
  by_cases e : j = b + i
  · rw [if_pos e, if_pos (by omega), show j - b = i by omega]
  · rw [if_neg e]
    by_cases h : b ≤ j ∧ j < b + i
    · rw [if_pos h, if_pos (by omega)]
    · rw [if_neg h, if_neg (by omega)]
theorem tg_putZ (f : Nat → Int32) (g : Nat → Int32) (i : Nat) : upd (tg_put f 0 g i) i (g i) = tg_put f 0 g (i + 1) := by
  have h := tg_putS f 0 g i
  rw [Nat.zero_add] at h
  exact h
theorem tg_putI {f : Nat → Int32} {g : Nat → Int32} {n j : Nat} (h : j < n) : tg_put f 0 g n j = g j := by
  unfold tg_put
  rw [if_pos (by omega), Nat.sub_zero]
/-- a row of eight that was read out of f, changed in two places and written back -/
theorem tg_ld (f z : Nat → Int32) (b c : Nat) (p q : Int32) (hc : c < 7) : tg_put f b (upd (upd (tg_put z 0 (fun j => f (b + j)) 8) c p) (c + 1) q) 8 = upd (upd f (b + c) p) (b + (c + 1)) q := by
  funext j
  unfold upd
  by_cases e1 : j = b + (c + 1)
  · rw [if_pos e1]
    unfold tg_put
    dsimp only
    rw [if_pos (by omega), if_pos (by omega)]
  · rw [if_neg e1]
    by_cases e2 : j = b + c
    · rw [if_pos e2]
      unfold tg_put
      dsimp only
      rw [if_pos (by omega), if_neg (by omega), if_pos (by omega)]
    · rw [if_neg e2]
      unfold tg_put
      dsimp only
      by_cases h : b ≤ j ∧ j < b + 8
      · rw [if_pos h, if_neg (by omega), if_neg (by omega), if_pos (by omega), show b + (j - b - 0) = j by omega]
      · rw [if_neg h]
/-- the same row written over another array g -/
theorem tg_ld2 (g f z : Nat → Int32) (b c : Nat) (p q : Int32) (hc : c < 7) : tg_put g b (upd (upd (tg_put z 0 (fun j => f (b + j)) 8) c p) (c + 1) q) 8 = tg_put g b (fun j => upd (upd f (b + c) p) (b + (c + 1)) q (b + j)) 8 := by
  funext j
  unfold tg_put
  by_cases h : b ≤ j ∧ j < b + 8
  · rw [if_pos h, if_pos h]
    unfold upd
    dsimp only
    by_cases e1 : j = b + (c + 1)
    · rw [if_pos (show j - b = c + 1 by omega), if_pos (show b + (j - b) = b + (c + 1) by omega)]
    · rw [if_neg (show ¬ j - b = c + 1 by omega), if_neg (show ¬ b + (j - b) = b + (c + 1) by omega)]
      by_cases e2 : j = b + c
      · rw [if_pos (show j - b = c by omega), if_pos (show b + (j - b) = b + c by omega)]
      · rw [if_neg (show ¬ j - b = c by omega), if_neg (show ¬ b + (j - b) = b + c by omega), if_pos (by omega), Nat.sub_zero]
  · rw [if_neg h, if_neg h]
def tg_P (x v : Int32) : Int32 := if x < v then x else x - v
def tg_Q (x y v : Int32) : Int32 := if x < v then (if y < v then y else y - v) else y
def tg_O (x y v : Int32) : Int32 := if x < v then (if y < v then 4 else 3) else 2
/-- a write of kind k (0: SET, 2: TAKE), value v, on two cells x, y: its outcome o, the cells behind it p, q -/
def tg_pf (k : Nat) (x y v o p q : Int32) : Prop := (k = 0 ∧ o = 2 ∧ p = v ∧ q = y) ∨ (k = 2 ∧ o = tg_O x y v ∧ p = tg_P x v ∧ q = tg_Q x y v)
theorem tg_pfS (x y v : Int32) : tg_pf 0 x y v 2 v y := Or.inl ⟨rfl, rfl, rfl, rfl⟩
theorem tg_pfT (x y v : Int32) : tg_pf 2 x y v (tg_O x y v) (tg_P x v) (tg_Q x y v) := Or.inr ⟨rfl, rfl, rfl, rfl⟩
theorem tg_pf4 {k : Nat} {x y v o p q : Int32} (h : tg_pf k x y v o p q) : ¬ nI k = 4 := by
  rcases h with ⟨h, _⟩ | ⟨h, _⟩
  · rw [h]
    decide
  · rw [h]
    decide
theorem tg_ne {a b : Nat} (h : a ≠ b) (ha : a < 2 ^ 31) (hb : b < 2 ^ 31) : ¬ nI a = nI b := fun e => h ((nI_eq ha hb).mp e)
end
section
/-! the small methods: bad, undoTo, before, take, perform -/
section
variable {R W : Int32} { a1 a2 a3 a4 a5 a6 a7 a8 a9 a10 a11 a12 a13 a14 a15 a16 a17 a18 a19 a20 a21 a22 a23 a24 : Nat → Int32}
theorem tg_bad {post : Int32 → Prop} {r : Nat} (hr : r < 3) (H : post 0) : wpX_bad post (3, W, a1, a2, a3, a4, a5, a6, a7, a8, a9, a10, a11, a12, a13, a14, a15, a16, a17, a18, a19, a20, a21, a22, a23, a24) (nI r) :=
  br_f (nI_pos (by omega)) (br_t (nI_lt (b := 3) hr (by decide)) H)
theorem tg_undo0 {post : St2 → Prop} {r k m : Nat} (hr : r < 4) (hk : k < 48) (h17 : a17 r = nI m) (hm : m ≤ k) (H : post (R, W, a1, a2, a3, a4, a5, a6, a7, a8, a9, a10, a11, a12, a13, a14, a15, a16, a17, a18, a19, a20, a21, a22, a23, a24)) : wpX_undoTo post (R, W, a1, a2, a3, a4, a5, a6, a7, a8, a9, a10, a11, a12, a13, a14, a15, a16, a17, a18, a19, a20, a21, a22, a23, a24) (nI r) (nI k) := by
  refine ⟨pk_in r 4 hr, nm_r (e' := nI m - 1) (by rw [nI_clamp (by omega), h17]) ⟨1, br_t (tg_m1 hm (by omega)) H⟩⟩
theorem tg_undoS {post : St2 → Prop} {n r k i cA cB : Nat} {vA vB : Int32} (hr : r < 4) (hi : i < 48) (hk : k ≤ i) (hA : cA < 8) (hB : cB < 8) (h20 : a20 (r * 48 + i) = nI cA) (h21 : a21 (r * 48 + i) = vA) (h22 : a22 (r * 48 + i) = nI cB) (h23 : a23 (r * 48 + i) = vB)
    (H : wX_undoTo_9 post (nI r) (nI k) R W n (nI i + (-1)) a1 a2 a3 a4 a5 a6 a7 a8 a9 a10 a11 a12 a13 a14 (upd (upd a15 (r * 8 + cB) vB) (r * 8 + cA) vA) a16 (upd a17 r (nI i)) a18 a19 a20 a21 a22 a23 a24) :
    wX_undoTo_9 post (nI r) (nI k) R W (n + 1) (nI i) a1 a2 a3 a4 a5 a6 a7 a8 a9 a10 a11 a12 a13 a14 a15 a16 a17 a18 a19 a20 a21 a22 a23 a24 := by
  refine br_f (nI_nlt hk (by omega)) (nm_r (tg_48 r i) ?_)
  rw [nI_clamp (show r * 48 + i < 2 ^ 31 by omega), nI_clamp (show r < 2 ^ 31 by omega), h20, h21, h22, h23, tg_8, tg_8, nI_clamp (show r * 8 + cB < 2 ^ 31 by omega), nI_clamp (show r * 8 + cA < 2 ^ 31 by omega)]
  exact ⟨vp_in_nI (by omega) (by omega), vp_in_nI (by omega) (by omega), vp_in_nI (by omega) (by omega), nm_e ⟨vp_in_nI (by omega) (by omega), vp_in_nI (by omega) (by omega), vp_in_nI (by omega) (by omega), nm_e ⟨pk_in r 4 hr, nm_e (nm_e H)⟩⟩⟩
theorem tg_undo1 {post : St2 → Prop} {r cA cB : Nat} {vA vB : Int32} (hr : r < 4) (hA : cA < 8) (hB : cB < 8) (h17 : a17 r = nI 1) (h20 : a20 (r * 48 + 0) = nI cA) (h21 : a21 (r * 48 + 0) = vA) (h22 : a22 (r * 48 + 0) = nI cB) (h23 : a23 (r * 48 + 0) = vB)
    (H : post (R, W, a1, a2, a3, a4, a5, a6, a7, a8, a9, a10, a11, a12, a13, a14, upd (upd a15 (r * 8 + cB) vB) (r * 8 + cA) vA, a16, upd a17 r (nI 0), a18, a19, a20, a21, a22, a23, a24)) : wpX_undoTo post (R, W, a1, a2, a3, a4, a5, a6, a7, a8, a9, a10, a11, a12, a13, a14, a15, a16, a17, a18, a19, a20, a21, a22, a23, a24) (nI r) (nI 0) := by
  refine ⟨pk_in r 4 hr, nm_r (e' := nI 0) (by rw [nI_clamp (by omega), h17]; rfl) ⟨2, ?_⟩⟩
  exact tg_undoS hr (by omega) (by omega) hA hB h20 h21 h22 h23 (br_t (tg_m2 (by omega)) H)
theorem tg_undo2 {post : St2 → Prop} {r cA cB dA dB : Nat} {vA vB wA wB : Int32} (hr : r < 4) (hA : cA < 8) (hB : cB < 8) (kA : dA < 8) (kB : dB < 8) (h17 : a17 r = nI 2) (h20 : a20 (r * 48 + 0) = nI cA) (h21 : a21 (r * 48 + 0) = vA) (h22 : a22 (r * 48 + 0) = nI cB) (h23 : a23 (r * 48 + 0) = vB) (k20 : a20 (r * 48 + 1) = nI dA) (k21 : a21 (r * 48 + 1) = wA) (k22 : a22 (r * 48 + 1) = nI dB) (k23 : a23 (r * 48 + 1) = wB)
    (H : post (R, W, a1, a2, a3, a4, a5, a6, a7, a8, a9, a10, a11, a12, a13, a14, upd (upd (upd (upd a15 (r * 8 + dB) wB) (r * 8 + dA) wA) (r * 8 + cB) vB) (r * 8 + cA) vA, a16, upd (upd a17 r (nI 1)) r (nI 0), a18, a19, a20, a21, a22, a23, a24)) : wpX_undoTo post (R, W, a1, a2, a3, a4, a5, a6, a7, a8, a9, a10, a11, a12, a13, a14, a15, a16, a17, a18, a19, a20, a21, a22, a23, a24) (nI r) (nI 0) := by
  refine ⟨pk_in r 4 hr, nm_r (e' := nI 1) (by rw [nI_clamp (by omega), h17]; rfl) ⟨3, ?_⟩⟩
  refine tg_undoS hr (by omega) (by omega) kA kB k20 k21 k22 k23 ?_
  rw [pk_m1 0]
  exact tg_undoS hr (by omega) (by omega) hA hB h20 h21 h22 h23 (br_t (tg_m2 (by omega)) H)
theorem tg_before1 {post : Int32 → Prop} {p q o1 o2 : Nat} (hp : p < 48) (hq : q < 48) (ho : o1 < o2) (ho2 : o2 < 48) (h3 : a3 p = a3 q) (h1 : a1 p = nI o1) (k1 : a1 q = nI o2) (H : post 1) : wpX_before post (R, W, a1, a2, a3, a4, a5, a6, a7, a8, a9, a10, a11, a12, a13, a14, a15, a16, a17, a18, a19, a20, a21, a22, a23, a24) (nI p) (nI q) := by
  have ep : (nI p).toNatClampNeg = p := nI_clamp (by omega)
  have eq : (nI q).toNatClampNeg = q := nI_clamp (by omega)
  exact ⟨pk_in p 48 hp, pk_in q 48 hq, br_t (by rw [ep, eq]; exact h3) ⟨pk_in p 48 hp, pk_in q 48 hq, br_f (by rw [ep, eq, h1, k1]; exact nI_ge ho (by omega)) H⟩⟩
theorem tg_before0 {post : Int32 → Prop} {p q o1 o2 : Nat} (hp : p < 48) (hq : q < 48) (ho : o2 ≤ o1) (ho2 : o1 < 48) (h3 : a3 p = a3 q) (h1 : a1 p = nI o1) (k1 : a1 q = nI o2) (H : post 0) : wpX_before post (R, W, a1, a2, a3, a4, a5, a6, a7, a8, a9, a10, a11, a12, a13, a14, a15, a16, a17, a18, a19, a20, a21, a22, a23, a24) (nI p) (nI q) := by
  have ep : (nI p).toNatClampNeg = p := nI_clamp (by omega)
  have eq : (nI q).toNatClampNeg = q := nI_clamp (by omega)
  exact ⟨pk_in p 48 hp, pk_in q 48 hq, br_t (by rw [ep, eq]; exact h3) ⟨pk_in p 48 hp, pk_in q 48 hq, br_t (by rw [ep, eq, h1, k1]; exact nI_le ho (by omega)) H⟩⟩
theorem tg_take {post : Int32 → St2 → Prop} {c e : Nat} {x y v : Int32} (hc : c < 8) (he : e < 8) (hce : c ≠ e) (hx : a24 c = x) (hy : a24 e = y) (H : post (tg_O x y v) (R, W, a1, a2, a3, a4, a5, a6, a7, a8, a9, a10, a11, a12, a13, a14, a15, a16, a17, a18, a19, a20, a21, a22, a23, upd (upd a24 c (tg_P x v)) e (tg_Q x y v))) : wpX_take post (R, W, a1, a2, a3, a4, a5, a6, a7, a8, a9, a10, a11, a12, a13, a14, a15, a16, a17, a18, a19, a20, a21, a22, a23, a24) (nI c) (nI e) v := by
  have ec : (nI c).toNatClampNeg = c := nI_clamp (by omega)
  have ee : (nI e).toNatClampNeg = e := nI_clamp (by omega)
  unfold wpX_take
  dsimp only
  rw [ec, ee, hx, hy]
  by_cases h1 : x < v
  · have e1 : tg_P x v = x := if_pos h1
    by_cases h2 : y < v
    · have e2 : tg_Q x y v = y := by
        unfold tg_Q
        rw [if_pos h1, if_pos h2]
      have e3 : tg_O x y v = 4 := by
        unfold tg_O
        rw [if_pos h1, if_pos h2]
      rw [e1, e2, e3, tg_us hx, tg_us hy] at H
      exact ⟨pk_in c 8 hc, br_t h1 ⟨pk_in e 8 he, br_t h2 H⟩⟩
    · have e2 : tg_Q x y v = y - v := by
        unfold tg_Q
        rw [if_pos h1, if_neg h2]
      have e3 : tg_O x y v = 3 := by
        unfold tg_O
        rw [if_pos h1, if_neg h2]
      rw [e1, e2, e3, tg_us hx] at H
      exact ⟨pk_in c 8 hc, br_t h1 ⟨pk_in e 8 he, br_f h2 ⟨pk_in e 8 he, pk_in e 8 he, nm_e H⟩⟩⟩
  · have e1 : tg_P x v = x - v := if_neg h1
    have e2 : tg_Q x y v = y := if_neg h1
    have e3 : tg_O x y v = 2 := if_neg h1
    have e4 : upd a24 c (x - v) e = y := by
      rw [pk_un (Ne.symm hce), hy]
    rw [e1, e2, e3, tg_us e4] at H
    exact ⟨pk_in c 8 hc, br_f h1 ⟨pk_in c 8 hc, pk_in c 8 hc, nm_e H⟩⟩
theorem tg_perf {post : Int32 → St2 → Prop} {w c k : Nat} {x y v o p q : Int32} (hw : w < 48) (hc : c < 7) (h4 : a4 w = nI k) (h5 : a5 w = nI c) (h6 : a6 w = v) (hx : a24 c = x) (hy : a24 (c + 1) = y) (hf : tg_pf k x y v o p q) (H : post o (R, W, a1, a2, a3, a4, a5, a6, a7, a8, a9, a10, a11, a12, a13, a14, a15, a16, a17, a18, a19, a20, a21, a22, a23, upd (upd a24 c p) (c + 1) q)) : wpX_perform post (R, W, a1, a2, a3, a4, a5, a6, a7, a8, a9, a10, a11, a12, a13, a14, a15, a16, a17, a18, a19, a20, a21, a22, a23, a24) (nI w) := by
  have ew : (nI w).toNatClampNeg = w := nI_clamp (by omega)
  have ec : (nI c).toNatClampNeg = c := nI_clamp (by omega)
  unfold wpX_perform
  dsimp only
  rw [ew, h4, h5, h6]
  refine ⟨pk_in w 48 hw, nm_e ⟨pk_in w 48 hw, nm_e (nm_r (tg_and7 hc) ⟨pk_in w 48 hw, nm_e ?_⟩)⟩⟩
  rcases hf with ⟨ek, eo, ep, eq⟩ | ⟨ek, eo, ep, eq⟩
  · rw [ek]
    rw [eo, ep, eq, tg_us (show upd a24 c v (c + 1) = y by rw [pk_un (by omega), hy])] at H
    exact br_f (by decide) (br_f (by decide) (br_t rfl ⟨pk_in c 8 (by omega), nm_r (by rw [ec]) H⟩))
  · rw [ek]
    rw [eo, ep, eq] at H
    exact br_f (by decide) (br_f (by decide) (br_f (by decide) (br_f (by decide) (br_t rfl (tg_take (by omega) (by omega) (by omega) hx hy H)))))
theorem tg_take_2 {post : Int32 → St2 → Prop} {c e : Nat} {x y v : Int32} (hc : c < 8) (he : e < 8) (hce : c ≠ e) (hx : a24 c = x) (hy : a24 e = y) (H : post (tg_O x y v) (R, W, a1, a2, a3, a4, a5, a6, a7, a8, a9, a10, a11, a12, a13, a14, a15, a16, a17, a18, a19, a20, a21, a22, a23, upd (upd a24 c (tg_P x v)) e (tg_Q x y v))) : wpX_take_2 post (R, W, a1, a2, a3, a4, a5, a6, a7, a8, a9, a10, a11, a12, a13, a14, a15, a16, a17, a18, a19, a20, a21, a22, a23, a24) (nI c) (nI e) v := by
  have ec : (nI c).toNatClampNeg = c := nI_clamp (by omega)
  have ee : (nI e).toNatClampNeg = e := nI_clamp (by omega)
  unfold wpX_take_2
  dsimp only
  rw [ec, ee, hx, hy]
  by_cases h1 : x < v
  · have e1 : tg_P x v = x := if_pos h1
    by_cases h2 : y < v
    · have e2 : tg_Q x y v = y := by
        unfold tg_Q
        rw [if_pos h1, if_pos h2]
      have e3 : tg_O x y v = 4 := by
        unfold tg_O
        rw [if_pos h1, if_pos h2]
      rw [e1, e2, e3, tg_us hx, tg_us hy] at H
      exact ⟨pk_in c 8 hc, br_t h1 ⟨pk_in e 8 he, br_t h2 H⟩⟩
    · have e2 : tg_Q x y v = y - v := by
        unfold tg_Q
        rw [if_pos h1, if_neg h2]
      have e3 : tg_O x y v = 3 := by
        unfold tg_O
        rw [if_pos h1, if_neg h2]
      rw [e1, e2, e3, tg_us hx] at H
      exact ⟨pk_in c 8 hc, br_t h1 ⟨pk_in e 8 he, br_f h2 ⟨pk_in e 8 he, pk_in e 8 he, nm_e H⟩⟩⟩
  · have e1 : tg_P x v = x - v := if_neg h1
    have e2 : tg_Q x y v = y := if_neg h1
    have e3 : tg_O x y v = 2 := if_neg h1
    have e4 : upd a24 c (x - v) e = y := by
      rw [pk_un (Ne.symm hce), hy]
    rw [e1, e2, e3, tg_us e4] at H
    exact ⟨pk_in c 8 hc, br_f h1 ⟨pk_in c 8 hc, pk_in c 8 hc, nm_e H⟩⟩
theorem tg_perf_2 {post : Int32 → St2 → Prop} {w c k : Nat} {x y v o p q : Int32} (hw : w < 48) (hc : c < 7) (h4 : a4 w = nI k) (h5 : a5 w = nI c) (h6 : a6 w = v) (hx : a24 c = x) (hy : a24 (c + 1) = y) (hf : tg_pf k x y v o p q) (H : post o (R, W, a1, a2, a3, a4, a5, a6, a7, a8, a9, a10, a11, a12, a13, a14, a15, a16, a17, a18, a19, a20, a21, a22, a23, upd (upd a24 c p) (c + 1) q)) : wpX_perform_2 post (R, W, a1, a2, a3, a4, a5, a6, a7, a8, a9, a10, a11, a12, a13, a14, a15, a16, a17, a18, a19, a20, a21, a22, a23, a24) (nI w) := by
  have ew : (nI w).toNatClampNeg = w := nI_clamp (by omega)
  have ec : (nI c).toNatClampNeg = c := nI_clamp (by omega)
  unfold wpX_perform_2
  dsimp only
  rw [ew, h4, h5, h6]
  refine ⟨pk_in w 48 hw, nm_e ⟨pk_in w 48 hw, nm_e (nm_r (tg_and7 hc) ⟨pk_in w 48 hw, nm_e ?_⟩)⟩⟩
  rcases hf with ⟨ek, eo, ep, eq⟩ | ⟨ek, eo, ep, eq⟩
  · rw [ek]
    rw [eo, ep, eq, tg_us (show upd a24 c v (c + 1) = y by rw [pk_un (by omega), hy])] at H
    exact br_f (by decide) (br_f (by decide) (br_t rfl ⟨pk_in c 8 (by omega), nm_r (by rw [ec]) H⟩))
  · rw [ek]
    rw [eo, ep, eq] at H
    exact br_f (by decide) (br_f (by decide) (br_f (by decide) (br_f (by decide) (br_t rfl (tg_take_2 (by omega) (by omega) (by omega) hx hy H)))))
end
end
section
/-! applyOne, applyAll -/
section
variable {R W : Int32} { a1 a2 a3 a4 a5 a6 a7 a8 a9 a10 a11 a12 a13 a14 a15 a16 a17 a18 a19 a20 a21 a22 a23 a24 : Nat → Int32}
theorem tg_ao155 {post : St2 → Prop} {r : Nat} (hr : r < 4) (H : post (R, W, a1, a2, a3, a4, a5, a6, a7, a8, a9, a10, a11, a12, a13, a14, tg_put a15 (r * 8) a24 8, a16, a17, a18, a19, a20, a21, a22, a23, a24)) : ∃ n, wX_applyOne_155 post (nI r) R W n 0 a1 a2 a3 a4 a5 a6 a7 a8 a9 a10 a11 a12 a13 a14 a15 a16 a17 a18 a19 a20 a21 a22 a23 a24 :=
  pk_loop (fun n i s => wX_applyOne_155 post (nI r) R W n (nI i) a1 a2 a3 a4 a5 a6 a7 a8 a9 a10 a11 a12 a13 a14 s a16 a17 a18 a19 a20 a21 a22 a23 a24) (fun i s => s = tg_put a15 (r * 8) a24 i) 8 0 a15 (by omega) (tg_put0 a15 (r * 8) a24)
    (fun n s h => pk_le 8 8 (fun _ => by subst h; exact H) (fun z => absurd z (by omega)))
    (fun n i s hi h hw => pk_le 8 i (fun z => absurd z (by omega)) (fun _ => ⟨pk_in i 8 hi, pk_in (r * 8 + i) 32 (by omega) (tg_8 r i), nm_e (nm_r (nI_1 i) (hw _ (by rw [tg_8, nI_clamp (show r * 8 + i < 2 ^ 31 by omega), nI_clamp (show i < 2 ^ 31 by omega), h, tg_putS])))⟩))
theorem tg_ao18 {post : St2 → Prop} {r : Nat} {x3 x4 : Int32} (hr : r < 4) (H : ∀ n, wX_applyOne_18 post (nI r) x3 x4 R W (n + 1) (nI 8) a1 a2 a3 a4 a5 a6 a7 a8 a9 a10 a11 a12 a13 a14 a15 a16 a17 a18 a19 a20 a21 a22 a23 (tg_put a24 0 (fun j => a15 (r * 8 + j)) 8)) : ∃ n, wX_applyOne_18 post (nI r) x3 x4 R W n 0 a1 a2 a3 a4 a5 a6 a7 a8 a9 a10 a11 a12 a13 a14 a15 a16 a17 a18 a19 a20 a21 a22 a23 a24 :=
  pk_loop (fun n i s => wX_applyOne_18 post (nI r) x3 x4 R W n (nI i) a1 a2 a3 a4 a5 a6 a7 a8 a9 a10 a11 a12 a13 a14 a15 a16 a17 a18 a19 a20 a21 a22 a23 s) (fun i s => s = tg_put a24 0 (fun j => a15 (r * 8 + j)) i) 8 0 a24 (by omega) (tg_put0 a24 0 _)
    (fun n s h => by subst h; exact H n)
    (fun n i s hi h hw => pk_le 8 i (fun z => absurd z (by omega)) (fun _ => ⟨pk_in (r * 8 + i) 32 (by omega) (tg_8 r i), pk_in i 8 hi, nm_e (nm_r (nI_1 i) (hw _ (by rw [tg_8, nI_clamp (show r * 8 + i < 2 ^ 31 by omega), nI_clamp (show i < 2 ^ 31 by omega), h]; exact tg_putZ a24 (fun j => a15 (r * 8 + j)) i)))⟩))
theorem tg_ao100 {post : St2 → Prop} {r t c : Nat} {x y : Int32} (hr : r < 4) (ht : t < 192) (hc : c < 7) (hx : a15 (r * 8 + c) = x) (hy : a15 (r * 8 + (c + 1)) = y)
    (H : post (R, W, a1, a2, a3, a4, a5, a6, a7, a8, a9, a10, a11, a12, a13, a14, tg_put a15 (r * 8) a24 8, a16, a17, a18, a19, upd a20 t (nI c), upd a21 t x, upd a22 t (nI (c + 1)), upd a23 t y, a24)) : wX_applyOne_100 post (nI r) (nI t) (nI c) (nI (c + 1)) R W a1 a2 a3 a4 a5 a6 a7 a8 a9 a10 a11 a12 a13 a14 a15 a16 a17 a18 a19 a20 a21 a22 a23 a24 := by
  unfold wX_applyOne_100
  rw [nI_clamp (show t < 2 ^ 31 by omega), tg_8 r c, tg_8 r (c + 1), nI_clamp (show r * 8 + c < 2 ^ 31 by omega), nI_clamp (show r * 8 + (c + 1) < 2 ^ 31 by omega), hx, hy]
  exact ⟨pk_in t 192 ht, nm_e ⟨vp_in_nI (by omega) (by omega), pk_in t 192 ht, nm_e ⟨pk_in t 192 ht, nm_e ⟨vp_in_nI (by omega) (by omega), pk_in t 192 ht, nm_e (tg_ao155 hr H)⟩⟩⟩⟩
theorem tg_ao {post : St2 → Prop} {r i t w c k : Nat} {x y v o p q : Int32} (hr : r < 4) (hi : i < 48) (ht : r * 48 + i = t) (hw : w < 48) (hc : c < 7) (h18 : a18 t = nI w) (h4 : a4 w = nI k) (h5 : a5 w = nI c) (h6 : a6 w = v) (hx : a15 (r * 8 + c) = x) (hy : a15 (r * 8 + (c + 1)) = y) (hf : tg_pf k x y v o p q)
    (H : ∀ z, post (R, W, a1, a2, a3, a4, a5, a6, a7, a8, a9, a10, a11, a12, a13, a14, upd (upd a15 (r * 8 + c) p) (r * 8 + (c + 1)) q, a16, a17, a18, upd a19 t o, upd a20 t (nI c), upd a21 t x, upd a22 t (nI (c + 1)), upd a23 t y, z)) : wpX_applyOne post (R, W, a1, a2, a3, a4, a5, a6, a7, a8, a9, a10, a11, a12, a13, a14, a15, a16, a17, a18, a19, a20, a21, a22, a23, a24) (nI r) (nI i) := by
  have ew : (nI w).toNatClampNeg = w := nI_clamp (by omega)
  have et : (nI t).toNatClampNeg = t := nI_clamp (by omega)
  unfold wpX_applyOne
  dsimp only
  refine nm_r (e' := nI t) (by rw [tg_48, ht]) ?_
  rw [et, h18]
  refine ⟨pk_in t 192 (by omega), nm_e (tg_ao18 hr (fun n => ?_))⟩
  refine br_t (by decide) ?_
  refine tg_perf hw hc h4 h5 h6 (x := x) (y := y) (by rw [tg_putI (by omega)]; exact hx) (by rw [tg_putI (by omega)]; exact hy) hf ?_
  dsimp only
  refine ⟨pk_in t 192 (by omega), nm_r (e' := upd a19 t o) (by rw [et]) ⟨pk_in w 48 hw, nm_r (e' := nI c) (by rw [ew, h5]) (nm_r (tg_and7 hc) ⟨pk_in w 48 hw, br_f (by rw [ew, h4]; exact tg_pf4 hf) ?_⟩)⟩⟩
  refine tg_ao100 hr (by omega) hc hx hy ?_
  rw [tg_ld a15 a24 (r * 8) c p q hc]
  exact H _
theorem tg_aaS {post : St2 → Prop} {n r i m t w c k : Nat} {x y v o p q : Int32} (hr : r < 4) (hm : m < 48) (h16 : a16 r = nI m) (hi : i < m) (ht : r * 48 + i = t) (hw : w < 48) (hc : c < 7) (h18 : a18 t = nI w) (h4 : a4 w = nI k) (h5 : a5 w = nI c) (h6 : a6 w = v) (hx : a15 (r * 8 + c) = x) (hy : a15 (r * 8 + (c + 1)) = y) (hf : tg_pf k x y v o p q)
    (H : ∀ z, wX_applyAll_7 post (nI r) n (nI (i + 1)) R W a1 a2 a3 a4 a5 a6 a7 a8 a9 a10 a11 a12 a13 a14 (upd (upd a15 (r * 8 + c) p) (r * 8 + (c + 1)) q) a16 a17 a18 (upd a19 t o) (upd a20 t (nI c)) (upd a21 t x) (upd a22 t (nI (c + 1))) (upd a23 t y) z) : wX_applyAll_7 post (nI r) (n + 1) (nI i) R W a1 a2 a3 a4 a5 a6 a7 a8 a9 a10 a11 a12 a13 a14 a15 a16 a17 a18 a19 a20 a21 a22 a23 a24 := by
  refine ⟨pk_in r 4 hr, br_f (by rw [nI_clamp (by omega), h16]; exact nI_ge hi (by omega)) ?_⟩
  refine tg_ao hr (by omega) ht hw hc h18 h4 h5 h6 hx hy hf (fun z => ?_)
  exact nm_r (nI_1 i) (H z)
theorem tg_aaE {post : St2 → Prop} {n r m : Nat} (hr : r < 4) (hm : m < 48) (h16 : a16 r = nI m) (H : post (R, W, a1, a2, a3, a4, a5, a6, a7, a8, a9, a10, a11, a12, a13, a14, a15, a16, upd a17 r (nI m), a18, a19, a20, a21, a22, a23, a24)) : wX_applyAll_7 post (nI r) (n + 1) (nI m) R W a1 a2 a3 a4 a5 a6 a7 a8 a9 a10 a11 a12 a13 a14 a15 a16 a17 a18 a19 a20 a21 a22 a23 a24 := by
  have er : (nI r).toNatClampNeg = r := nI_clamp (by omega)
  exact ⟨pk_in r 4 hr, br_t (by rw [er, h16]; exact nI_le (Nat.le_refl m) (by omega)) ⟨pk_in r 4 hr, pk_in r 4 hr, nm_r (by rw [er, h16]) H⟩⟩
theorem tg_aa {post : St2 → Prop} {r i : Nat} (n : Nat) (hr : r < 4) (h17 : a17 r = nI i) (H : wX_applyAll_7 post (nI r) n (nI i) R W a1 a2 a3 a4 a5 a6 a7 a8 a9 a10 a11 a12 a13 a14 a15 a16 a17 a18 a19 a20 a21 a22 a23 a24) : wpX_applyAll post (R, W, a1, a2, a3, a4, a5, a6, a7, a8, a9, a10, a11, a12, a13, a14, a15, a16, a17, a18, a19, a20, a21, a22, a23, a24) (nI r) :=
  ⟨pk_in r 4 hr, nm_r (by rw [nI_clamp (by omega), h17]) ⟨n, H⟩⟩
end
end
section
/-! insert: at the end (nothing undone), at the front of one or two (all undone) -/
section
variable {R W : Int32} { a1 a2 a3 a4 a5 a6 a7 a8 a9 a10 a11 a12 a13 a14 a15 a16 a17 a18 a19 a20 a21 a22 a23 a24 : Nat → Int32}
theorem tg_i60E {post : St2 → Prop} {n r m t : Nat} {x2 : Int32} (hr : r < 4) (ht : t < 48) (H : post (R, W, a1, a2, a3, a4, a5, a6, a7, a8, a9, a10, a11, a12, a13, a14, a15, upd a16 r (nI (m + 1)), a17, upd a18 (r * 48 + t) x2, a19, a20, a21, a22, a23, a24)) : wX_insert_60 post (nI r) x2 (nI m) (nI t) R W (n + 1) (nI t) a1 a2 a3 a4 a5 a6 a7 a8 a9 a10 a11 a12 a13 a14 a15 a16 a17 a18 a19 a20 a21 a22 a23 a24 := by
  refine br_t (nI_le (Nat.le_refl t) (by omega)) ⟨pk_in (r * 48 + t) 192 (by omega) (tg_48 r t), nm_r (e' := upd a18 (r * 48 + t) x2) (by rw [tg_48, nI_clamp (by omega)]) ⟨pk_in r 4 hr, nm_r (by rw [nI_1, nI_clamp (by omega)]) H⟩⟩
theorem tg_i60S {post : St2 → Prop} {n r i t : Nat} {x2 x3 v : Int32} (hr : r < 4) (hi : i < 47) (ht : t ≤ i) (h18 : a18 (r * 48 + i) = v) (H : wX_insert_60 post (nI r) x2 x3 (nI t) R W n (nI i) a1 a2 a3 a4 a5 a6 a7 a8 a9 a10 a11 a12 a13 a14 a15 a16 a17 (upd a18 (r * 48 + (i + 1)) v) a19 a20 a21 a22 a23 a24) : wX_insert_60 post (nI r) x2 x3 (nI t) R W (n + 1) (nI (i + 1)) a1 a2 a3 a4 a5 a6 a7 a8 a9 a10 a11 a12 a13 a14 a15 a16 a17 a18 a19 a20 a21 a22 a23 a24 := by
  refine br_f (nI_ge (by omega) (by omega)) ⟨pk_in (r * 48 + i) 192 (by omega) (tg_48p r i), pk_in (r * 48 + (i + 1)) 192 (by omega) (tg_48 r (i + 1)), nm_r (by rw [tg_48p, tg_48, nI_clamp (show r * 48 + i < 2 ^ 31 by omega), nI_clamp (show r * 48 + (i + 1) < 2 ^ 31 by omega), h18]) (nm_r (pk_m1 i) H)⟩
theorem tg_i17S {post : St2 → Prop} {n r w i q o1 o2 : Nat} {x3 : Int32} (hr : r < 4) (hi : i < 47) (hw : w < 48) (hq : q < 48) (ho : o1 < o2) (ho2 : o2 < 48) (h18 : a18 (r * 48 + i) = nI q) (h3 : a3 w = a3 q) (h1 : a1 w = nI o1) (k1 : a1 q = nI o2) (H : wX_insert_17 post (nI r) (nI w) x3 R W a1 a2 a3 a4 a5 a6 a7 a8 a9 a10 a11 a12 a13 a14 a15 a16 a17 a18 a19 a20 a21 a22 a23 a24 n (nI i)) : wX_insert_17 post (nI r) (nI w) x3 R W a1 a2 a3 a4 a5 a6 a7 a8 a9 a10 a11 a12 a13 a14 a15 a16 a17 a18 a19 a20 a21 a22 a23 a24 (n + 1) (nI (i + 1)) := by
  refine br_f (nI_nle (by omega) (by omega)) ⟨pk_in (r * 48 + i) 192 (by omega) (tg_48p r i), ?_⟩
  rw [tg_48p, nI_clamp (show r * 48 + i < 2 ^ 31 by omega), h18]
  exact tg_before1 hw hq ho ho2 h3 h1 k1 (br_f (by decide) (nm_r (pk_m1 i) H))
theorem tg_i17F {post : St2 → Prop} {n r w i q o1 o2 : Nat} {x3 : Int32} (hr : r < 4) (hi : i < 47) (hw : w < 48) (hq : q < 48) (ho : o2 ≤ o1) (ho2 : o1 < 48) (h18 : a18 (r * 48 + i) = nI q) (h3 : a3 w = a3 q) (h1 : a1 w = nI o1) (k1 : a1 q = nI o2) (H : wX_insert_50 post (nI r) (nI w) x3 (nI (i + 1)) R W a1 a2 a3 a4 a5 a6 a7 a8 a9 a10 a11 a12 a13 a14 a15 a16 a17 a18 a19 a20 a21 a22 a23 a24) : wX_insert_17 post (nI r) (nI w) x3 R W a1 a2 a3 a4 a5 a6 a7 a8 a9 a10 a11 a12 a13 a14 a15 a16 a17 a18 a19 a20 a21 a22 a23 a24 (n + 1) (nI (i + 1)) := by
  refine br_f (nI_nle (by omega) (by omega)) ⟨pk_in (r * 48 + i) 192 (by omega) (tg_48p r i), ?_⟩
  rw [tg_48p, nI_clamp (show r * 48 + i < 2 ^ 31 by omega), h18]
  exact tg_before0 hw hq ho ho2 h3 h1 k1 (br_t rfl H)
theorem tg_i17E {post : St2 → Prop} {n : Nat} {x1 x2 x3 : Int32} (H : wX_insert_50 post x1 x2 x3 (nI 0) R W a1 a2 a3 a4 a5 a6 a7 a8 a9 a10 a11 a12 a13 a14 a15 a16 a17 a18 a19 a20 a21 a22 a23 a24) : wX_insert_17 post x1 x2 x3 R W a1 a2 a3 a4 a5 a6 a7 a8 a9 a10 a11 a12 a13 a14 a15 a16 a17 a18 a19 a20 a21 a22 a23 a24 (n + 1) (nI 0) :=
  br_t (by decide) H
theorem tg_ins {post : St2 → Prop} {r w m : Nat} (n : Nat) (hr : r < 4) (hm : m < 48) (h16 : a16 r = nI m) (H : wX_insert_17 post (nI r) (nI w) (nI m) R W a1 a2 a3 a4 a5 a6 a7 a8 a9 a10 a11 a12 a13 a14 a15 a16 a17 a18 a19 a20 a21 a22 a23 a24 n (nI m)) : wpX_insert post (R, W, a1, a2, a3, a4, a5, a6, a7, a8, a9, a10, a11, a12, a13, a14, a15, a16, a17, a18, a19, a20, a21, a22, a23, a24) (nI r) (nI w) :=
  ⟨pk_in r 4 hr, nm_r (e' := nI m) (by rw [nI_clamp (by omega), h16]) (br_t (nI_lt (b := 48) hm (by decide)) ⟨n, H⟩)⟩
/-- at the end, nothing to undo -/
theorem tg_i50 {post : St2 → Prop} {r w m l : Nat} (hr : r < 4) (hm : m < 48) (h17 : a17 r = nI l) (hl : l ≤ m) (H : post (R, W, a1, a2, a3, a4, a5, a6, a7, a8, a9, a10, a11, a12, a13, a14, a15, upd a16 r (nI (m + 1)), a17, upd a18 (r * 48 + m) (nI w), a19, a20, a21, a22, a23, a24)) : wX_insert_50 post (nI r) (nI w) (nI m) (nI m) R W a1 a2 a3 a4 a5 a6 a7 a8 a9 a10 a11 a12 a13 a14 a15 a16 a17 a18 a19 a20 a21 a22 a23 a24 := by
  unfold wX_insert_50
  exact tg_undo0 hr hm h17 hl ⟨1, tg_i60E hr hm H⟩
theorem tg_insE {post : St2 → Prop} {r w : Nat} (hr : r < 4) (h16 : a16 r = nI 0) (h17 : a17 r = nI 0) (H : post (R, W, a1, a2, a3, a4, a5, a6, a7, a8, a9, a10, a11, a12, a13, a14, a15, upd a16 r (nI 1), a17, upd a18 (r * 48 + 0) (nI w), a19, a20, a21, a22, a23, a24)) : wpX_insert post (R, W, a1, a2, a3, a4, a5, a6, a7, a8, a9, a10, a11, a12, a13, a14, a15, a16, a17, a18, a19, a20, a21, a22, a23, a24) (nI r) (nI w) :=
  tg_ins 1 hr (by omega) h16 (tg_i17E (tg_i50 hr (by omega) h17 (by omega) H))
theorem tg_insA {post : St2 → Prop} {r w m l q o1 o2 : Nat} (hr : r < 4) (hm : m < 46) (hw : w < 48) (hq : q < 48) (ho : o2 ≤ o1) (ho2 : o1 < 48) (h16 : a16 r = nI (m + 1)) (h17 : a17 r = nI l) (hl : l ≤ m + 1) (h18 : a18 (r * 48 + m) = nI q) (h3 : a3 w = a3 q) (h1 : a1 w = nI o1) (k1 : a1 q = nI o2) (H : post (R, W, a1, a2, a3, a4, a5, a6, a7, a8, a9, a10, a11, a12, a13, a14, a15, upd a16 r (nI (m + 1 + 1)), a17, upd a18 (r * 48 + (m + 1)) (nI w), a19, a20, a21, a22, a23, a24)) : wpX_insert post (R, W, a1, a2, a3, a4, a5, a6, a7, a8, a9, a10, a11, a12, a13, a14, a15, a16, a17, a18, a19, a20, a21, a22, a23, a24) (nI r) (nI w) :=
  tg_ins 1 hr (by omega) h16 (tg_i17F hr (by omega) hw hq ho ho2 h18 h3 h1 k1 (tg_i50 hr (by omega) h17 hl H))
theorem tg_ins1 {post : St2 → Prop} {r w q o1 o2 cA cB : Nat} {vA vB : Int32} (hr : r < 4) (hw : w < 48) (hq : q < 48) (ho : o1 < o2) (ho2 : o2 < 48) (h16 : a16 r = nI 1) (h17 : a17 r = nI 1) (h18 : a18 (r * 48 + 0) = nI q) (h3 : a3 w = a3 q) (h1 : a1 w = nI o1) (k1 : a1 q = nI o2)
    (hA : cA < 8) (hB : cB < 8) (h20 : a20 (r * 48 + 0) = nI cA) (h21 : a21 (r * 48 + 0) = vA) (h22 : a22 (r * 48 + 0) = nI cB) (h23 : a23 (r * 48 + 0) = vB)
    (H : post (R, W, a1, a2, a3, a4, a5, a6, a7, a8, a9, a10, a11, a12, a13, a14, upd (upd a15 (r * 8 + cB) vB) (r * 8 + cA) vA, upd a16 r (nI 2), upd a17 r (nI 0), upd (upd a18 (r * 48 + 1) (nI q)) (r * 48 + 0) (nI w), a19, a20, a21, a22, a23, a24)) : wpX_insert post (R, W, a1, a2, a3, a4, a5, a6, a7, a8, a9, a10, a11, a12, a13, a14, a15, a16, a17, a18, a19, a20, a21, a22, a23, a24) (nI r) (nI w) := by
  refine tg_ins 2 hr (by omega) h16 (tg_i17S hr (by omega) hw hq ho ho2 h18 h3 h1 k1 (tg_i17E ?_))
  unfold wX_insert_50
  exact tg_undo1 hr hA hB h17 h20 h21 h22 h23 ⟨2, tg_i60S hr (by omega) (by omega) h18 (tg_i60E hr (by omega) H)⟩
theorem tg_ins2 {post : St2 → Prop} {r w q q' o1 o2 o3 cA cB dA dB : Nat} {vA vB wA wB : Int32} (hr : r < 4) (hw : w < 48) (hq : q < 48) (hq' : q' < 48) (ho : o1 < o2) (ho2 : o2 < 48) (ho' : o1 < o3) (ho3 : o3 < 48) (h16 : a16 r = nI 2) (h17 : a17 r = nI 2) (h18 : a18 (r * 48 + 0) = nI q) (k18 : a18 (r * 48 + 1) = nI q') (h3 : a3 w = a3 q) (k3 : a3 w = a3 q') (h1 : a1 w = nI o1) (k1 : a1 q = nI o2) (l1 : a1 q' = nI o3)
    (hA : cA < 8) (hB : cB < 8) (kA : dA < 8) (kB : dB < 8) (h20 : a20 (r * 48 + 0) = nI cA) (h21 : a21 (r * 48 + 0) = vA) (h22 : a22 (r * 48 + 0) = nI cB) (h23 : a23 (r * 48 + 0) = vB) (k20 : a20 (r * 48 + 1) = nI dA) (k21 : a21 (r * 48 + 1) = wA) (k22 : a22 (r * 48 + 1) = nI dB) (k23 : a23 (r * 48 + 1) = wB)
    (H : post (R, W, a1, a2, a3, a4, a5, a6, a7, a8, a9, a10, a11, a12, a13, a14, upd (upd (upd (upd a15 (r * 8 + dB) wB) (r * 8 + dA) wA) (r * 8 + cB) vB) (r * 8 + cA) vA, upd a16 r (nI 3), upd (upd a17 r (nI 1)) r (nI 0), upd (upd (upd a18 (r * 48 + 2) (nI q')) (r * 48 + 1) (nI q)) (r * 48 + 0) (nI w), a19, a20, a21, a22, a23, a24)) : wpX_insert post (R, W, a1, a2, a3, a4, a5, a6, a7, a8, a9, a10, a11, a12, a13, a14, a15, a16, a17, a18, a19, a20, a21, a22, a23, a24) (nI r) (nI w) := by
  refine tg_ins 3 hr (by omega) h16 (tg_i17S hr (by omega) hw hq' ho' ho3 k18 k3 h1 l1 (tg_i17S hr (by omega) hw hq ho ho2 h18 h3 h1 k1 (tg_i17E ?_)))
  unfold wX_insert_50
  refine tg_undo2 hr hA hB kA kB h17 h20 h21 h22 h23 k20 k21 k22 k23 ⟨3, tg_i60S hr (by omega) (by omega) k18 (tg_i60S hr (by omega) (by omega) (v := nI q) ?_ (tg_i60E hr (by omega) H))⟩
  rw [pk_un (by omega), h18]
end
end
section
/-! write, by a replica that holds nothing yet -/
section
variable {R W : Int32} { a1 a2 a3 a4 a5 a6 a7 a8 a9 a10 a11 a12 a13 a14 a15 a16 a17 a18 a19 a20 a21 a22 a23 a24 : Nat → Int32}
theorem tg_write {post : Int32 → St2 → Prop} {w r k c : Nat} {x y v o p q : Int32} (hw : w < 48) (hr : r < 3) (hk : k ≤ 5) (hc : c < 7) (h7 : a7 r = nI 0) (h8 : a8 (r * 4 + r) = nI 0) (h16 : a16 r = nI 0) (h17 : a17 r = nI 0) (hx : a15 (r * 8 + c) = x) (hy : a15 (r * 8 + (c + 1)) = y) (hf : tg_pf k x y v o p q)
    (H : ∀ z, post (nI w) (3, nI (w + 1), upd a1 w (nI r), upd a2 w (nI 0), upd a3 w (nI 1), upd a4 w (nI k), upd a5 w (nI c), upd a6 w v, upd a7 r (nI 1), upd a8 (r * 4 + r) (nI 1), a9, a10, a11, a12, a13, a14, upd (upd a15 (r * 8 + c) p) (r * 8 + (c + 1)) q, upd a16 r (nI 1), upd a17 r (nI 1), upd a18 (r * 48 + 0) (nI w), upd a19 (r * 48 + 0) o, upd a20 (r * 48 + 0) (nI c), upd a21 (r * 48 + 0) x, upd a22 (r * 48 + 0) (nI (c + 1)), upd a23 (r * 48 + 0) y, z)) : wpX_write post (3, nI w, a1, a2, a3, a4, a5, a6, a7, a8, a9, a10, a11, a12, a13, a14, a15, a16, a17, a18, a19, a20, a21, a22, a23, a24) (nI r) (nI k) (nI c) v := by
  have er : (nI r).toNatClampNeg = r := nI_clamp (by omega)
  have ew : (nI w).toNatClampNeg = w := nI_clamp (by omega)
  have e4 : (nI (r * 4 + r)).toNatClampNeg = r * 4 + r := nI_clamp (by omega)
  unfold wpX_write
  dsimp only
  refine tg_bad hr (br_t rfl (br_f (nI_pos (by omega)) (br_t (nI_le (b := 5) hk (by decide)) (br_f (nI_pos (by omega)) (br_t (nI_le (b := 7) (by omega) (by decide)) (br_t (nI_lt (b := 48) hw (by decide)) ?_))))))
  rw [er, ew, tg_4, e4, h7, h8]
  refine ⟨pk_in r 4 (by omega), pk_in r 4 (by omega), nm_r (e' := upd a7 r (nI 1)) (by rw [nI_1 0]) ⟨pk_in w 48 hw, nm_e ⟨pk_in (r * 4 + r) 16 (by omega), pk_in w 48 hw, nm_e ⟨pk_in r 4 (by omega), pk_in w 48 hw, nm_r (e' := upd a3 w (nI 1)) (by rw [pk_us]) ⟨pk_in w 48 hw, nm_e ⟨pk_in w 48 hw, nm_e ⟨pk_in w 48 hw, nm_e (nm_r (nI_1 w) ?_)⟩⟩⟩⟩⟩⟩⟩
  refine tg_insE (by omega) h16 h17 ?_
  dsimp only
  refine ⟨pk_in (r * 4 + r) 16 (by omega), pk_in (r * 4 + r) 16 (by omega), nm_r (e' := upd a8 (r * 4 + r) (nI 1)) (by rw [h8, nI_1 0]) ?_⟩
  refine tg_aa 2 (by omega) h17 (tg_aaS (m := 1) (t := r * 48 + 0) (w := w) (c := c) (k := k) (x := x) (y := y) (v := v) (by omega) (by omega) pk_us (by omega) rfl hw hc pk_us pk_us pk_us pk_us hx hy hf (fun z => ?_))
  exact tg_aaE (m := 1) (by omega) (by omega) pk_us (H z)
end
end
section
/-! removeTentative, fix -/
section
variable {R W : Int32} { a1 a2 a3 a4 a5 a6 a7 a8 a9 a10 a11 a12 a13 a14 a15 a16 a17 a18 a19 a20 a21 a22 a23 a24 : Nat → Int32}
theorem tg_r54S {post : St2 → Prop} {n r m i : Nat} {x4 v18 v19 v20 v21 v22 v23 : Int32} (hr : r < 4) (hm : m < 48) (hi : i < r * 48 + m) (h18 : a18 (i + 1) = v18) (h19 : a19 (i + 1) = v19) (h20 : a20 (i + 1) = v20) (h21 : a21 (i + 1) = v21) (h22 : a22 (i + 1) = v22) (h23 : a23 (i + 1) = v23) 
    (H : wX_removeTentative_54 post (nI r) (nI (m + 1)) x4 R W n (nI (i + 1)) a1 a2 a3 a4 a5 a6 a7 a8 a9 a10 a11 a12 a13 a14 a15 a16 a17 (upd a18 i v18) (upd a19 i v19) (upd a20 i v20) (upd a21 i v21) (upd a22 i v22) (upd a23 i v23) a24) : wX_removeTentative_54 post (nI r) (nI (m + 1)) x4 R W (n + 1) (nI i) a1 a2 a3 a4 a5 a6 a7 a8 a9 a10 a11 a12 a13 a14 a15 a16 a17 a18 a19 a20 a21 a22 a23 a24 := by
  refine br_f ?_ ?_
  · rw [tg_48p]
    exact nI_ge hi (by omega)
  · rw [nI_1, nI_clamp (show i + 1 < 2 ^ 31 by omega), nI_clamp (show i < 2 ^ 31 by omega), h18, h19, h20, h21, h22, h23]
    have e1 : vp_in (nI (i + 1)) 192 := pk_in (i + 1) 192 (by omega)
    have e2 : vp_in (nI i) 192 := pk_in i 192 (by omega)
    exact ⟨e1, e2, nm_e ⟨e1, e2, nm_e ⟨e1, e2, nm_e ⟨e1, e2, nm_e ⟨e1, e2, nm_e ⟨e1, e2, nm_e (nm_e H)⟩⟩⟩⟩⟩⟩
theorem tg_r54E {post : St2 → Prop} {n r m l : Nat} (hr : r < 4) (hm : m < 47) (hl : l < 48) (h17 : a17 r = nI (l + 1)) (H : post (R, W, a1, a2, a3, a4, a5, a6, a7, a8, a9, a10, a11, a12, a13, a14, a15, upd a16 r (nI m), upd a17 r (nI l), a18, a19, a20, a21, a22, a23, a24)) : wX_removeTentative_54 post (nI r) (nI (m + 1)) (nI 0) R W (n + 1) (nI (r * 48 + m)) a1 a2 a3 a4 a5 a6 a7 a8 a9 a10 a11 a12 a13 a14 a15 a16 a17 a18 a19 a20 a21 a22 a23 a24 := by
  refine br_t ?_ ?_
  · rw [tg_48p]
    exact nI_le (Nat.le_refl _) (by omega)
  · rw [nI_clamp (show r < 2 ^ 31 by omega), nI_pred, h17, nI_pred]
    exact ⟨pk_in r 4 hr, nm_e ⟨pk_in r 4 hr, br_f (nI_ge (by omega) (by omega)) ⟨pk_in r 4 hr, pk_in r 4 hr, nm_e H⟩⟩⟩
theorem tg_r54Z {post : St2 → Prop} {n r m : Nat} (hr : r < 4) (hm : m < 47) (h17 : a17 r = nI 0) (H : post (R, W, a1, a2, a3, a4, a5, a6, a7, a8, a9, a10, a11, a12, a13, a14, a15, upd a16 r (nI m), a17, a18, a19, a20, a21, a22, a23, a24)) : wX_removeTentative_54 post (nI r) (nI (m + 1)) (nI 0) R W (n + 1) (nI (r * 48 + m)) a1 a2 a3 a4 a5 a6 a7 a8 a9 a10 a11 a12 a13 a14 a15 a16 a17 a18 a19 a20 a21 a22 a23 a24 := by
  refine br_t ?_ ?_
  · rw [tg_48p]
    exact nI_le (Nat.le_refl _) (by omega)
  · rw [nI_clamp (show r < 2 ^ 31 by omega), nI_pred, h17]
    exact ⟨pk_in r 4 hr, nm_e ⟨pk_in r 4 hr, br_t (nI_le (by omega) (by omega)) H⟩⟩
theorem tg_r38 {post : St2 → Prop} {r m : Nat} (n : Nat) (hm : m < 47) (H : wX_removeTentative_54 post (nI r) (nI (m + 1)) (nI 0) R W n (nI (r * 48 + 0)) a1 a2 a3 a4 a5 a6 a7 a8 a9 a10 a11 a12 a13 a14 a15 a16 a17 a18 a19 a20 a21 a22 a23 a24) : wX_removeTentative_38 post (nI r) (nI (m + 1)) (nI 0) R W a1 a2 a3 a4 a5 a6 a7 a8 a9 a10 a11 a12 a13 a14 a15 a16 a17 a18 a19 a20 a21 a22 a23 a24 := by
  unfold wX_removeTentative_38
  exact br_t (nI_lt (by omega) (by omega)) (nm_r (tg_48 r 0) ⟨n, H⟩)
theorem tg_r38N {post : St2 → Prop} {m : Nat} {x1 : Int32} (hm : m < 48) (H : post (R, W, a1, a2, a3, a4, a5, a6, a7, a8, a9, a10, a11, a12, a13, a14, a15, a16, a17, a18, a19, a20, a21, a22, a23, a24)) : wX_removeTentative_38 post x1 (nI m) (nI m) R W a1 a2 a3 a4 a5 a6 a7 a8 a9 a10 a11 a12 a13 a14 a15 a16 a17 a18 a19 a20 a21 a22 a23 a24 := by
  unfold wX_removeTentative_38
  exact br_f (nI_nlt (Nat.le_refl m) (by omega)) H
theorem tg_r10F {post : St2 → Prop} {n r w m i : Nat} (hr : r < 4) (hm : m < 48) (hi : i < m) (h18 : a18 (r * 48 + i) = nI w) (H : wX_removeTentative_38 post (nI r) (nI m) (nI i) R W a1 a2 a3 a4 a5 a6 a7 a8 a9 a10 a11 a12 a13 a14 a15 a16 a17 a18 a19 a20 a21 a22 a23 a24) : wX_removeTentative_10 post (nI r) (nI w) (nI m) R W a1 a2 a3 a4 a5 a6 a7 a8 a9 a10 a11 a12 a13 a14 a15 a16 a17 a18 a19 a20 a21 a22 a23 a24 (n + 1) (nI i) :=
  br_f (nI_ge hi (by omega)) ⟨pk_in (r * 48 + i) 192 (by omega) (tg_48 r i), br_t (by rw [tg_48, nI_clamp (by omega), h18]) H⟩
theorem tg_r10S {post : St2 → Prop} {n r w m i q : Nat} (hr : r < 4) (hm : m < 48) (hi : i < m) (h18 : a18 (r * 48 + i) = nI q) (hq : q < 48) (hw : w < 48) (hqw : q ≠ w) (H : wX_removeTentative_10 post (nI r) (nI w) (nI m) R W a1 a2 a3 a4 a5 a6 a7 a8 a9 a10 a11 a12 a13 a14 a15 a16 a17 a18 a19 a20 a21 a22 a23 a24 n (nI (i + 1))) : wX_removeTentative_10 post (nI r) (nI w) (nI m) R W a1 a2 a3 a4 a5 a6 a7 a8 a9 a10 a11 a12 a13 a14 a15 a16 a17 a18 a19 a20 a21 a22 a23 a24 (n + 1) (nI i) :=
  br_f (nI_ge hi (by omega)) ⟨pk_in (r * 48 + i) 192 (by omega) (tg_48 r i), br_f (by rw [tg_48, nI_clamp (by omega), h18]; exact tg_ne hqw (by omega) (by omega)) (nm_r (nI_1 i) H)⟩
theorem tg_r10E {post : St2 → Prop} {n m : Nat} {x1 x2 : Int32} (hm : m < 48) (H : post (R, W, a1, a2, a3, a4, a5, a6, a7, a8, a9, a10, a11, a12, a13, a14, a15, a16, a17, a18, a19, a20, a21, a22, a23, a24)) : wX_removeTentative_10 post x1 x2 (nI m) R W a1 a2 a3 a4 a5 a6 a7 a8 a9 a10 a11 a12 a13 a14 a15 a16 a17 a18 a19 a20 a21 a22 a23 a24 (n + 1) (nI m) :=
  br_t (nI_le (Nat.le_refl m) (by omega)) (tg_r38N hm H)
theorem tg_rt {post : St2 → Prop} {r w m : Nat} (n : Nat) (hr : r < 4) (h16 : a16 r = nI m) (H : wX_removeTentative_10 post (nI r) (nI w) (nI m) R W a1 a2 a3 a4 a5 a6 a7 a8 a9 a10 a11 a12 a13 a14 a15 a16 a17 a18 a19 a20 a21 a22 a23 a24 n (nI 0)) : wpX_removeTentative post (R, W, a1, a2, a3, a4, a5, a6, a7, a8, a9, a10, a11, a12, a13, a14, a15, a16, a17, a18, a19, a20, a21, a22, a23, a24) (nI r) (nI w) :=
  ⟨pk_in r 4 hr, nm_r (e' := nI m) (by rw [nI_clamp (by omega), h16]) ⟨n, H⟩⟩
/-- none there -/
theorem tg_rtA0 {post : St2 → Prop} {r w : Nat} (hr : r < 4) (h16 : a16 r = nI 0) (H : post (R, W, a1, a2, a3, a4, a5, a6, a7, a8, a9, a10, a11, a12, a13, a14, a15, a16, a17, a18, a19, a20, a21, a22, a23, a24)) : wpX_removeTentative post (R, W, a1, a2, a3, a4, a5, a6, a7, a8, a9, a10, a11, a12, a13, a14, a15, a16, a17, a18, a19, a20, a21, a22, a23, a24) (nI r) (nI w) :=
  tg_rt 1 hr h16 (tg_r10E (by omega) H)
/-- one there, another one -/
theorem tg_rtA1 {post : St2 → Prop} {r w q : Nat} (hr : r < 4) (h16 : a16 r = nI 1) (h18 : a18 (r * 48 + 0) = nI q) (hq : q < 48) (hw : w < 48) (hqw : q ≠ w) (H : post (R, W, a1, a2, a3, a4, a5, a6, a7, a8, a9, a10, a11, a12, a13, a14, a15, a16, a17, a18, a19, a20, a21, a22, a23, a24)) : wpX_removeTentative post (R, W, a1, a2, a3, a4, a5, a6, a7, a8, a9, a10, a11, a12, a13, a14, a15, a16, a17, a18, a19, a20, a21, a22, a23, a24) (nI r) (nI w) :=
  tg_rt 2 hr h16 (tg_r10S hr (by omega) (by omega) h18 hq hw hqw (tg_r10E (by omega) H))
/-- the only one, not applied -/
theorem tg_rtZ1 {post : St2 → Prop} {r w : Nat} (hr : r < 4) (h16 : a16 r = nI 1) (h17 : a17 r = nI 0) (h18 : a18 (r * 48 + 0) = nI w) (H : post (R, W, a1, a2, a3, a4, a5, a6, a7, a8, a9, a10, a11, a12, a13, a14, a15, upd a16 r (nI 0), a17, a18, a19, a20, a21, a22, a23, a24)) : wpX_removeTentative post (R, W, a1, a2, a3, a4, a5, a6, a7, a8, a9, a10, a11, a12, a13, a14, a15, a16, a17, a18, a19, a20, a21, a22, a23, a24) (nI r) (nI w) :=
  tg_rt 1 hr h16 (tg_r10F hr (by omega) (by omega) h18 (tg_r38 1 (by omega) (tg_r54Z hr (by omega) h17 H)))
/-- the first of one, two, three; applied -/
theorem tg_rt1 {post : St2 → Prop} {r w l : Nat} (hr : r < 4) (hl : l < 48) (h16 : a16 r = nI 1) (h17 : a17 r = nI (l + 1)) (h18 : a18 (r * 48 + 0) = nI w) (H : post (R, W, a1, a2, a3, a4, a5, a6, a7, a8, a9, a10, a11, a12, a13, a14, a15, upd a16 r (nI 0), upd a17 r (nI l), a18, a19, a20, a21, a22, a23, a24)) : wpX_removeTentative post (R, W, a1, a2, a3, a4, a5, a6, a7, a8, a9, a10, a11, a12, a13, a14, a15, a16, a17, a18, a19, a20, a21, a22, a23, a24) (nI r) (nI w) :=
  tg_rt 1 hr h16 (tg_r10F hr (by omega) (by omega) h18 (tg_r38 1 (by omega) (tg_r54E hr (by omega) hl h17 H)))
theorem tg_rt2 {post : St2 → Prop} {r w l : Nat} { p18 p19 p20 p21 p22 p23 : Int32} (hr : r < 4) (hl : l < 48) (h16 : a16 r = nI 2) (h17 : a17 r = nI (l + 1)) (hw : a18 (r * 48 + 0) = nI w) (h18 : a18 (r * 48 + 1) = p18) (h19 : a19 (r * 48 + 1) = p19) (h20 : a20 (r * 48 + 1) = p20) (h21 : a21 (r * 48 + 1) = p21) (h22 : a22 (r * 48 + 1) = p22) (h23 : a23 (r * 48 + 1) = p23) 
    (H : post (R, W, a1, a2, a3, a4, a5, a6, a7, a8, a9, a10, a11, a12, a13, a14, a15, upd a16 r (nI 1), upd a17 r (nI l), upd a18 (r * 48 + 0) p18, upd a19 (r * 48 + 0) p19, upd a20 (r * 48 + 0) p20, upd a21 (r * 48 + 0) p21, upd a22 (r * 48 + 0) p22, upd a23 (r * 48 + 0) p23, a24)) : wpX_removeTentative post (R, W, a1, a2, a3, a4, a5, a6, a7, a8, a9, a10, a11, a12, a13, a14, a15, a16, a17, a18, a19, a20, a21, a22, a23, a24) (nI r) (nI w) :=
  tg_rt 1 hr h16 (tg_r10F hr (by omega) (by omega) hw (tg_r38 2 (by omega) (tg_r54S hr (by omega) (by omega) h18 h19 h20 h21 h22 h23 (tg_r54E hr (by omega) hl h17 H))))
theorem tg_rt3 {post : St2 → Prop} {r w l : Nat} { p18 q18 p19 q19 p20 q20 p21 q21 p22 q22 p23 q23 : Int32} (hr : r < 4) (hl : l < 48) (h16 : a16 r = nI 3) (h17 : a17 r = nI (l + 1)) (hw : a18 (r * 48 + 0) = nI w) (h18 : a18 (r * 48 + 1) = p18) (k18 : a18 (r * 48 + 2) = q18) (h19 : a19 (r * 48 + 1) = p19) (k19 : a19 (r * 48 + 2) = q19) (h20 : a20 (r * 48 + 1) = p20) (k20 : a20 (r * 48 + 2) = q20) (h21 : a21 (r * 48 + 1) = p21) (k21 : a21 (r * 48 + 2) = q21) (h22 : a22 (r * 48 + 1) = p22) (k22 : a22 (r * 48 + 2) = q22) (h23 : a23 (r * 48 + 1) = p23) (k23 : a23 (r * 48 + 2) = q23) 
    (H : post (R, W, a1, a2, a3, a4, a5, a6, a7, a8, a9, a10, a11, a12, a13, a14, a15, upd a16 r (nI 2), upd a17 r (nI l), upd (upd a18 (r * 48 + 0) p18) (r * 48 + 1) q18, upd (upd a19 (r * 48 + 0) p19) (r * 48 + 1) q19, upd (upd a20 (r * 48 + 0) p20) (r * 48 + 1) q20, upd (upd a21 (r * 48 + 0) p21) (r * 48 + 1) q21, upd (upd a22 (r * 48 + 0) p22) (r * 48 + 1) q22, upd (upd a23 (r * 48 + 0) p23) (r * 48 + 1) q23, a24)) : wpX_removeTentative post (R, W, a1, a2, a3, a4, a5, a6, a7, a8, a9, a10, a11, a12, a13, a14, a15, a16, a17, a18, a19, a20, a21, a22, a23, a24) (nI r) (nI w) := by
  have t : ∀ (f : Nat → Int32) (x y : Int32), f (r * 48 + 2) = y → upd f (r * 48 + 0) x (r * 48 + 2) = y := fun f x y h => by
    rw [pk_un (by omega), h]
  exact tg_rt 1 hr h16 (tg_r10F hr (by omega) (by omega) hw (tg_r38 3 (by omega) (tg_r54S hr (by omega) (by omega) h18 h19 h20 h21 h22 h23 (tg_r54S hr (by omega) (by omega) (t _ _ _ k18) (t _ _ _ k19) (t _ _ _ k20) (t _ _ _ k21) (t _ _ _ k22) (t _ _ _ k23) (tg_r54E hr (by omega) hl h17 H)))))
theorem tg_f97a {post : St2 → Prop} {r w og f dn : Nat} (hr : r < 4) (hw : w < 48) (hog : og < 4) (hdn : dn < 48) (h1 : a1 w = nI og) (h9 : a9 (r * 4 + og) = nI f) (h10 : a10 r = nI dn) (H : post (R, W, a1, a2, a3, a4, a5, a6, a7, a8, upd a9 (r * 4 + og) (nI (f + 1)), upd a10 r (nI (dn + 1)), a11, a12, upd a13 (r * 48 + dn) (nI w), tg_put a14 (r * 8) a24 8, a15, a16, a17, a18, a19, a20, a21, a22, a23, a24)) : ∃ n, wX_fix_97 post (nI r) (nI w) 1 R W n 0 a1 a2 a3 a4 a5 a6 a7 a8 a9 a10 a11 a12 a13 a14 a15 a16 a17 a18 a19 a20 a21 a22 a23 a24 :=
  pk_loop (fun n i s => wX_fix_97 post (nI r) (nI w) 1 R W n (nI i) a1 a2 a3 a4 a5 a6 a7 a8 a9 a10 a11 a12 a13 s a15 a16 a17 a18 a19 a20 a21 a22 a23 a24) (fun i s => s = tg_put a14 (r * 8) a24 i) 8 0 a14 (by omega) (tg_put0 a14 (r * 8) a24)
    (fun n s h => by
      subst h
      refine br_t (by decide) ?_
      rw [nI_clamp (show r < 2 ^ 31 by omega), nI_clamp (show w < 2 ^ 31 by omega), h10, h1, tg_48, tg_4, nI_clamp (show r * 48 + dn < 2 ^ 31 by omega), nI_clamp (show r * 4 + og < 2 ^ 31 by omega), h9, nI_1 dn, nI_1 f]
      exact ⟨pk_in r 4 hr, vp_in_nI (by omega) (by omega), nm_e ⟨pk_in r 4 hr, pk_in r 4 hr, nm_e ⟨pk_in w 48 hw, vp_in_nI (by omega) (by omega), vp_in_nI (by omega) (by omega), nm_e H⟩⟩⟩)
    (fun n i s hi h hn => by
      subst h
      refine br_f (nI_ge (b := 8) hi (by decide)) ⟨pk_in i 8 hi, pk_in (r * 8 + i) 32 (by omega) (tg_8 r i), nm_r (e' := tg_put a14 (r * 8) a24 (i + 1)) (by rw [tg_8, nI_clamp (show r * 8 + i < 2 ^ 31 by omega), nI_clamp (show i < 2 ^ 31 by omega), tg_putS]) (br_f (by decide) (nm_r (nI_1 i) (hn _ rfl)))⟩)
theorem tg_f97b {post : St2 → Prop} {r w og f dn : Nat} (hr : r < 4) (hw : w < 48) (hog : og < 4) (hdn : dn < 48) (h1 : a1 w = nI og) (h9 : a9 (r * 4 + og) = nI f) (h10 : a10 r = nI dn) (H : post (R, W, a1, a2, a3, a4, a5, a6, a7, a8, upd a9 (r * 4 + og) (nI (f + 1)), upd a10 r (nI (dn + 1)), a11, a12, upd a13 (r * 48 + dn) (nI w), tg_put a14 (r * 8) a24 8, tg_put a15 (r * 8) a24 8, a16, a17, a18, a19, a20, a21, a22, a23, a24)) : ∃ n, wX_fix_97 post (nI r) (nI w) 0 R W n 0 a1 a2 a3 a4 a5 a6 a7 a8 a9 a10 a11 a12 a13 a14 a15 a16 a17 a18 a19 a20 a21 a22 a23 a24 :=
  pk_loop (fun n i (s : (Nat → Int32) × (Nat → Int32)) => wX_fix_97 post (nI r) (nI w) 0 R W n (nI i) a1 a2 a3 a4 a5 a6 a7 a8 a9 a10 a11 a12 a13 (s.1) (s.2) a16 a17 a18 a19 a20 a21 a22 a23 a24) (fun i s => s = (tg_put a14 (r * 8) a24 i, tg_put a15 (r * 8) a24 i)) 8 0 (a14, a15) (by omega) (by rw [← tg_put0, ← tg_put0])
    (fun n s h => by
      subst h
      refine br_t (by decide) ?_
      rw [nI_clamp (show r < 2 ^ 31 by omega), nI_clamp (show w < 2 ^ 31 by omega), h10, h1, tg_48, tg_4, nI_clamp (show r * 48 + dn < 2 ^ 31 by omega), nI_clamp (show r * 4 + og < 2 ^ 31 by omega), h9, nI_1 dn, nI_1 f]
      exact ⟨pk_in r 4 hr, vp_in_nI (by omega) (by omega), nm_e ⟨pk_in r 4 hr, pk_in r 4 hr, nm_e ⟨pk_in w 48 hw, vp_in_nI (by omega) (by omega), vp_in_nI (by omega) (by omega), nm_e H⟩⟩⟩)
    (fun n i s hi h hn => by
      subst h
      refine br_f (nI_ge (b := 8) hi (by decide)) ⟨pk_in i 8 hi, pk_in (r * 8 + i) 32 (by omega) (tg_8 r i), nm_r (e' := tg_put a14 (r * 8) a24 (i + 1)) (by rw [tg_8, nI_clamp (show r * 8 + i < 2 ^ 31 by omega), nI_clamp (show i < 2 ^ 31 by omega), tg_putS]) (br_t rfl ⟨pk_in i 8 hi, pk_in (r * 8 + i) 32 (by omega) (tg_8 r i), nm_r (e' := tg_put a15 (r * 8) a24 (i + 1)) (by rw [tg_8, nI_clamp (show r * 8 + i < 2 ^ 31 by omega), nI_clamp (show i < 2 ^ 31 by omega), tg_putS]) (nm_r (nI_1 i) (hn (_, _) rfl))⟩)⟩)
theorem tg_f56 {post : St2 → Prop} {r : Nat} {x2 x3 : Int32} (hr : r < 4) (H : ∀ n, wX_fix_56 post (nI r) x2 x3 R W (n + 1) (nI 8) a1 a2 a3 a4 a5 a6 a7 a8 a9 a10 a11 a12 a13 a14 a15 a16 a17 a18 a19 a20 a21 a22 a23 (tg_put a24 0 (fun j => a14 (r * 8 + j)) 8)) : ∃ n, wX_fix_56 post (nI r) x2 x3 R W n 0 a1 a2 a3 a4 a5 a6 a7 a8 a9 a10 a11 a12 a13 a14 a15 a16 a17 a18 a19 a20 a21 a22 a23 a24 :=
  pk_loop (fun n i s => wX_fix_56 post (nI r) x2 x3 R W n (nI i) a1 a2 a3 a4 a5 a6 a7 a8 a9 a10 a11 a12 a13 a14 a15 a16 a17 a18 a19 a20 a21 a22 a23 s) (fun i s => s = tg_put a24 0 (fun j => a14 (r * 8 + j)) i) 8 0 a24 (by omega) (tg_put0 a24 0 _)
    (fun n s h => by subst h; exact H n)
    (fun n i s hi h hw => pk_le 8 i (fun z => absurd z (by omega)) (fun _ => ⟨pk_in (r * 8 + i) 32 (by omega) (tg_8 r i), pk_in i 8 hi, nm_e (nm_r (nI_1 i) (hw _ (by rw [tg_8, nI_clamp (show r * 8 + i < 2 ^ 31 by omega), nI_clamp (show i < 2 ^ 31 by omega), h]; exact tg_putZ a24 (fun j => a14 (r * 8 + j)) i)))⟩))
theorem tg_f56a {post : St2 → Prop} {r w c k og f dn : Nat} {x y v o p q : Int32} (hr : r < 4) (hw : w < 48) (hc : c < 7) (h4 : a4 w = nI k) (h5 : a5 w = nI c) (h6 : a6 w = v) (hx : a14 (r * 8 + c) = x) (hy : a14 (r * 8 + (c + 1)) = y) (hf : tg_pf k x y v o p q) (hog : og < 4) (hdn : dn < 48) (h1 : a1 w = nI og) (h9 : a9 (r * 4 + og) = nI f) (h10 : a10 r = nI dn)
    (H : ∀ z, post (R, W, a1, a2, a3, a4, a5, a6, a7, a8, upd a9 (r * 4 + og) (nI (f + 1)), upd a10 r (nI (dn + 1)), a11, a12, upd a13 (r * 48 + dn) (nI w), upd (upd a14 (r * 8 + c) p) (r * 8 + (c + 1)) q, a15, a16, a17, a18, a19, a20, a21, a22, a23, z)) : ∃ n, wX_fix_56 post (nI r) (nI w) 1 R W n 0 a1 a2 a3 a4 a5 a6 a7 a8 a9 a10 a11 a12 a13 a14 a15 a16 a17 a18 a19 a20 a21 a22 a23 a24 := by
  refine tg_f56 hr (fun n => br_t (by decide) ?_)
  refine tg_perf_2 hw hc h4 h5 h6 (x := x) (y := y) (by rw [tg_putI (by omega)]; exact hx) (by rw [tg_putI (by omega)]; exact hy) hf ?_
  dsimp only
  refine tg_f97a hr hw hog hdn h1 h9 h10 ?_
  rw [tg_ld a14 a24 (r * 8) c p q hc]
  exact H _
theorem tg_f56b {post : St2 → Prop} {r w c k og f dn : Nat} {x y v o p q : Int32} (hr : r < 4) (hw : w < 48) (hc : c < 7) (h4 : a4 w = nI k) (h5 : a5 w = nI c) (h6 : a6 w = v) (hx : a14 (r * 8 + c) = x) (hy : a14 (r * 8 + (c + 1)) = y) (hf : tg_pf k x y v o p q) (hog : og < 4) (hdn : dn < 48) (h1 : a1 w = nI og) (h9 : a9 (r * 4 + og) = nI f) (h10 : a10 r = nI dn)
    (H : ∀ z, post (R, W, a1, a2, a3, a4, a5, a6, a7, a8, upd a9 (r * 4 + og) (nI (f + 1)), upd a10 r (nI (dn + 1)), a11, a12, upd a13 (r * 48 + dn) (nI w), upd (upd a14 (r * 8 + c) p) (r * 8 + (c + 1)) q, tg_put a15 (r * 8) (fun j => upd (upd a14 (r * 8 + c) p) (r * 8 + (c + 1)) q (r * 8 + j)) 8, a16, a17, a18, a19, a20, a21, a22, a23, z)) : ∃ n, wX_fix_56 post (nI r) (nI w) 0 R W n 0 a1 a2 a3 a4 a5 a6 a7 a8 a9 a10 a11 a12 a13 a14 a15 a16 a17 a18 a19 a20 a21 a22 a23 a24 := by
  refine tg_f56 hr (fun n => br_t (by decide) ?_)
  refine tg_perf_2 hw hc h4 h5 h6 (x := x) (y := y) (by rw [tg_putI (by omega)]; exact hx) (by rw [tg_putI (by omega)]; exact hy) hf ?_
  dsimp only
  refine tg_f97b hr hw hog hdn h1 h9 h10 ?_
  rw [tg_ld a14 a24 (r * 8) c p q hc, tg_ld2 a15 a14 a24 (r * 8) c p q hc]
  exact H _
/-- the write is the first tentative one, and applied -/
theorem tg_fixF {post : St2 → Prop} {r w m l : Nat} (hr : r < 4) (hm : m < 47) (hl : l < 47) (h16 : a16 r = nI (m + 1)) (h17 : a17 r = nI (l + 1)) (h18 : a18 (r * 48 + 0) = nI w) (H : wX_fix_47 post (nI r) (nI w) 1 R W a1 a2 a3 a4 a5 a6 a7 a8 a9 a10 a11 a12 a13 a14 a15 a16 a17 a18 a19 a20 a21 a22 a23 a24) : wpX_fix post (R, W, a1, a2, a3, a4, a5, a6, a7, a8, a9, a10, a11, a12, a13, a14, a15, a16, a17, a18, a19, a20, a21, a22, a23, a24) (nI r) (nI w) := by
  have er : (nI r).toNatClampNeg = r := nI_clamp (by omega)
  exact ⟨pk_in r 4 hr, br_f (by rw [er, h16]; exact nI_nle (by omega) (by omega)) ⟨pk_in (r * 48 + 0) 192 (by omega) (tg_48z r), br_t (by rw [tg_48z, nI_clamp (by omega), h18]) ⟨pk_in r 4 hr, br_f (by rw [er, h17]; exact nI_nle (by omega) (by omega)) (br_f (by decide) H)⟩⟩⟩
theorem tg_f35 {post : St2 → Prop} {r w : Nat} (hr : r < 4) (h17 : a17 r = nI 0) (H : wX_fix_47 post (nI r) (nI w) 0 R W a1 a2 a3 a4 a5 a6 a7 a8 a9 a10 a11 a12 a13 a14 a15 a16 a17 a18 a19 a20 a21 a22 a23 a24) : wX_fix_35 post (nI r) (nI w) R W a1 a2 a3 a4 a5 a6 a7 a8 a9 a10 a11 a12 a13 a14 a15 a16 a17 a18 a19 a20 a21 a22 a23 a24 := by
  unfold wX_fix_35 wX_fix_36
  exact br_t rfl (tg_undo0 (k := 0) hr (by omega) h17 (by omega) H)
theorem tg_f35u {post : St2 → Prop} {r w cA cB : Nat} {vA vB : Int32} (hr : r < 4) (hA : cA < 8) (hB : cB < 8) (h17 : a17 r = nI 1) (h20 : a20 (r * 48 + 0) = nI cA) (h21 : a21 (r * 48 + 0) = vA) (h22 : a22 (r * 48 + 0) = nI cB) (h23 : a23 (r * 48 + 0) = vB) (H : wX_fix_47 post (nI r) (nI w) 0 R W a1 a2 a3 a4 a5 a6 a7 a8 a9 a10 a11 a12 a13 a14 (upd (upd a15 (r * 8 + cB) vB) (r * 8 + cA) vA) a16 (upd a17 r (nI 0)) a18 a19 a20 a21 a22 a23 a24) : wX_fix_35 post (nI r) (nI w) R W a1 a2 a3 a4 a5 a6 a7 a8 a9 a10 a11 a12 a13 a14 a15 a16 a17 a18 a19 a20 a21 a22 a23 a24 := by
  unfold wX_fix_35 wX_fix_36
  exact br_t rfl (tg_undo1 hr hA hB h17 h20 h21 h22 h23 H)
theorem tg_fix0 {post : St2 → Prop} {r w : Nat} (hr : r < 4) (h16 : a16 r = nI 0) (H : wX_fix_35 post (nI r) (nI w) R W a1 a2 a3 a4 a5 a6 a7 a8 a9 a10 a11 a12 a13 a14 a15 a16 a17 a18 a19 a20 a21 a22 a23 a24) : wpX_fix post (R, W, a1, a2, a3, a4, a5, a6, a7, a8, a9, a10, a11, a12, a13, a14, a15, a16, a17, a18, a19, a20, a21, a22, a23, a24) (nI r) (nI w) :=
  ⟨pk_in r 4 hr, br_t (by rw [nI_clamp (by omega), h16]; decide) H⟩
theorem tg_fixN {post : St2 → Prop} {r w q m : Nat} (hr : r < 4) (hm : m < 47) (h16 : a16 r = nI (m + 1)) (h18 : a18 (r * 48 + 0) = nI q) (hq : q < 48) (hw : w < 48) (hqw : q ≠ w) (H : wX_fix_35 post (nI r) (nI w) R W a1 a2 a3 a4 a5 a6 a7 a8 a9 a10 a11 a12 a13 a14 a15 a16 a17 a18 a19 a20 a21 a22 a23 a24) : wpX_fix post (R, W, a1, a2, a3, a4, a5, a6, a7, a8, a9, a10, a11, a12, a13, a14, a15, a16, a17, a18, a19, a20, a21, a22, a23, a24) (nI r) (nI w) :=
  ⟨pk_in r 4 hr, br_f (by rw [nI_clamp (by omega), h16]; exact nI_nle (by omega) (by omega)) ⟨pk_in (r * 48 + 0) 192 (by omega) (tg_48z r), br_f (by rw [tg_48z, nI_clamp (by omega), h18]; exact tg_ne hqw (by omega) (by omega)) H⟩⟩
theorem tg_fixZ {post : St2 → Prop} {r w m : Nat} (hr : r < 4) (hm : m < 47) (h16 : a16 r = nI (m + 1)) (h17 : a17 r = nI 0) (h18 : a18 (r * 48 + 0) = nI w) (H : wX_fix_35 post (nI r) (nI w) R W a1 a2 a3 a4 a5 a6 a7 a8 a9 a10 a11 a12 a13 a14 a15 a16 a17 a18 a19 a20 a21 a22 a23 a24) : wpX_fix post (R, W, a1, a2, a3, a4, a5, a6, a7, a8, a9, a10, a11, a12, a13, a14, a15, a16, a17, a18, a19, a20, a21, a22, a23, a24) (nI r) (nI w) :=
  ⟨pk_in r 4 hr, br_f (by rw [nI_clamp (by omega), h16]; exact nI_nle (by omega) (by omega)) ⟨pk_in (r * 48 + 0) 192 (by omega) (tg_48z r), br_t (by rw [tg_48z, nI_clamp (by omega), h18]) ⟨pk_in r 4 hr, br_t (by rw [nI_clamp (by omega), h17]; decide) H⟩⟩⟩
end
end
section
/-! the loops of bring, transferLog, commit -/
section
variable {R W : Int32} { a1 a2 a3 a4 a5 a6 a7 a8 a9 a10 a11 a12 a13 a14 a15 a16 a17 a18 a19 a20 a21 a22 a23 a24 b1 b2 b3 b4 b5 b6 b7 b8 b9 b10 b11 b12 b13 b14 b15 b16 b17 b18 b19 b20 b21 b22 b23 : Nat → Int32}
theorem tg_b31S {post : Int32 → St2 → Prop} {n f t l o s s' : Nat} (hf : f < 4) (ht : t < 4) (ho : o < 4) (hs : s < 48) (hs' : s' < 48) (h : a8 (f * 4 + o) = nI s) (h' : a8 (t * 4 + o) = nI s') (H : wX_bring_31 post (nI f) (nI t) R W a1 a2 a3 a4 a5 a6 a7 a8 a9 a10 a11 a12 a13 a14 a15 a16 a17 a18 a19 a20 a21 a22 a23 a24 n (nI (l + (s - s'))) (nI (o + 1))) : wX_bring_31 post (nI f) (nI t) R W a1 a2 a3 a4 a5 a6 a7 a8 a9 a10 a11 a12 a13 a14 a15 a16 a17 a18 a19 a20 a21 a22 a23 a24 (n + 1) (nI l) (nI o) := by
  refine br_f (nI_ge (b := 4) ho (by decide)) ⟨pk_in (f * 4 + o) 16 (by omega) (tg_4 f o), pk_in (t * 4 + o) 16 (by omega) (tg_4 t o), nm_r (e' := nI s - nI s') (by rw [tg_4, tg_4, nI_clamp (show f * 4 + o < 2 ^ 31 by omega), nI_clamp (show t * 4 + o < 2 ^ 31 by omega), h, h']) ?_⟩
  by_cases hle : s ≤ s'
  · rw [Nat.sub_eq_zero_of_le hle, Nat.add_zero] at H
    refine br_t ?_ (nm_r (nI_1 o) H)
    have e0 : (0 : Int32).toInt = 0 := by decide
    rw [Int32.le_iff_toInt_le, pk_sub_toInt (by omega) (by omega), e0]
    omega
  · refine br_f ?_ (nm_r (by rw [pk_sub (by omega), nI_add]) (nm_r (nI_1 o) H))
    rw [pk_sub (by omega)]
    exact nI_nle (by omega) (by omega)
theorem tg_b31E {post : Int32 → St2 → Prop} {n f t df dt : Nat} {x3 : Int32} (k : Nat) (hf : f < 4) (ht : t < 4) (hd : df ≤ dt) (hdt : dt < 48) (h : a10 f = nI df) (h' : a10 t = nI dt) (H : wX_bring_126 post (nI f) (nI t) x3 k (nI 0) R W a1 a2 a3 a4 a5 a6 a7 a8 a9 a10 a11 a12 a13 a14 a15 a16 a17 a18 a19 a20 a21 a22 a23 a24) : wX_bring_31 post (nI f) (nI t) R W a1 a2 a3 a4 a5 a6 a7 a8 a9 a10 a11 a12 a13 a14 a15 a16 a17 a18 a19 a20 a21 a22 a23 a24 (n + 1) x3 (nI 4) :=
  br_t (by decide) ⟨pk_in f 4 hf, pk_in t 4 ht, br_t (by rw [nI_clamp (show f < 2 ^ 31 by omega), nI_clamp (show t < 2 ^ 31 by omega), h, h']; exact nI_le hd (by omega)) ⟨k, H⟩⟩
/-- the committed writes are brought, one by one -/
theorem tg_b31L {post : Int32 → St2 → Prop} {n f t df dt hd : Nat} {x3 : Int32} (k : Nat) (hf : f < 4) (ht : t < 4) (hdd : dt < df) (hdf : df < 48) (hh : hd ≤ dt) (h : a10 f = nI df) (h' : a10 t = nI dt) (h11 : a11 f = nI hd)
    (hl : ∀ Q : St2 → Prop, (∀ z, Q (R, W, b1, b2, b3, b4, b5, b6, b7, b8, b9, b10, b11, b12, b13, b14, b15, b16, b17, b18, b19, b20, b21, b22, b23, z)) → wpX_transferLog Q (R, W, a1, a2, a3, a4, a5, a6, a7, a8, a9, a10, a11, a12, a13, a14, a15, a16, a17, a18, a19, a20, a21, a22, a23, a24) (nI f) (nI t))
    (H : ∀ z, wX_bring_126 post (nI f) (nI t) x3 k (nI 0) R W b1 b2 b3 b4 b5 b6 b7 b8 b9 b10 b11 b12 b13 b14 b15 b16 b17 b18 b19 b20 b21 b22 b23 z) : wX_bring_31 post (nI f) (nI t) R W a1 a2 a3 a4 a5 a6 a7 a8 a9 a10 a11 a12 a13 a14 a15 a16 a17 a18 a19 a20 a21 a22 a23 a24 (n + 1) x3 (nI 4) := by
  have ef : (nI f).toNatClampNeg = f := nI_clamp (by omega)
  have et : (nI t).toNatClampNeg = t := nI_clamp (by omega)
  refine br_t (by decide) ⟨pk_in f 4 hf, pk_in t 4 ht, br_f (by rw [ef, et, h, h']; exact nI_ge hdd (by omega)) ⟨pk_in f 4 hf, pk_in t 4 ht, br_t (by rw [ef, et, h11, h']; exact nI_le hh (by omega)) (hl _ (fun z => ⟨k, H z⟩))⟩⟩
theorem tg_b126K {post : Int32 → St2 → Prop} {n f t i m w og tn s : Nat} {x3 : Int32} (hf : f < 4) (ht : t < 4) (hm : m < 48) (hi : i < m) (hw : w < 48) (hog : og < 4) (hts : tn < s) (hs : s < 48) (h16 : a16 f = nI m) (h18 : a18 (f * 48 + i) = nI w) (h1 : a1 w = nI og) (h2 : a2 w = nI tn) (h8 : a8 (t * 4 + og) = nI s) (H : wX_bring_126 post (nI f) (nI t) x3 n (nI (i + 1)) R W a1 a2 a3 a4 a5 a6 a7 a8 a9 a10 a11 a12 a13 a14 a15 a16 a17 a18 a19 a20 a21 a22 a23 a24) : wX_bring_126 post (nI f) (nI t) x3 (n + 1) (nI i) R W a1 a2 a3 a4 a5 a6 a7 a8 a9 a10 a11 a12 a13 a14 a15 a16 a17 a18 a19 a20 a21 a22 a23 a24 := by
  refine ⟨pk_in f 4 hf, br_f (by rw [nI_clamp (show f < 2 ^ 31 by omega), h16]; exact nI_ge hi (by omega)) ⟨pk_in (f * 48 + i) 192 (by omega) (tg_48 f i), nm_r (e' := nI w) (by rw [tg_48, nI_clamp (show f * 48 + i < 2 ^ 31 by omega), h18]) ?_⟩⟩
  rw [nI_clamp (show w < 2 ^ 31 by omega), h1, h2, tg_4, nI_clamp (show t * 4 + og < 2 ^ 31 by omega), h8]
  exact ⟨pk_in w 48 hw, pk_in w 48 hw, vp_in_nI (by omega) (by omega), br_t (nI_lt hts (by omega)) (nm_r (nI_1 i) H)⟩
theorem tg_b126I {post : Int32 → St2 → Prop} {n f t i m w og tn s : Nat} {x3 : Int32} {z : Nat → Int32} (hf : f < 4) (ht : t < 4) (hm : m < 48) (hi : i < m) (hw : w < 48) (hog : og < 4) (hts : s ≤ tn) (hs : tn < 48) (h16 : a16 f = nI m) (h18 : a18 (f * 48 + i) = nI w) (h1 : a1 w = nI og) (h2 : a2 w = nI tn) (h8 : a8 (t * 4 + og) = nI s)
    (hl : ∀ Q : St2 → Prop, Q (R, W, b1, b2, b3, b4, b5, b6, b7, b8, b9, b10, b11, b12, b13, b14, b15, b16, b17, b18, b19, b20, b21, b22, b23, z) → wpX_insert Q (R, W, a1, a2, a3, a4, a5, a6, a7, a8, a9, a10, a11, a12, a13, a14, a15, a16, a17, a18, a19, a20, a21, a22, a23, a24) (nI t) (nI w))
    (H : wX_bring_126 post (nI f) (nI t) x3 n (nI (i + 1)) R W b1 b2 b3 b4 b5 b6 b7 b8 b9 b10 b11 b12 b13 b14 b15 b16 b17 b18 b19 b20 b21 b22 b23 z) : wX_bring_126 post (nI f) (nI t) x3 (n + 1) (nI i) R W a1 a2 a3 a4 a5 a6 a7 a8 a9 a10 a11 a12 a13 a14 a15 a16 a17 a18 a19 a20 a21 a22 a23 a24 := by
  refine ⟨pk_in f 4 hf, br_f (by rw [nI_clamp (show f < 2 ^ 31 by omega), h16]; exact nI_ge hi (by omega)) ⟨pk_in (f * 48 + i) 192 (by omega) (tg_48 f i), nm_r (e' := nI w) (by rw [tg_48, nI_clamp (show f * 48 + i < 2 ^ 31 by omega), h18]) ?_⟩⟩
  rw [nI_clamp (show w < 2 ^ 31 by omega), h1, h2, tg_4, nI_clamp (show t * 4 + og < 2 ^ 31 by omega), h8]
  exact ⟨pk_in w 48 hw, pk_in w 48 hw, vp_in_nI (by omega) (by omega), br_f (nI_nlt hts (by omega)) (hl _ (nm_r (nI_1 i) H))⟩
theorem tg_b126E {post : Int32 → St2 → Prop} {n f m : Nat} {x2 x3 : Int32} (k : Nat) (hf : f < 4) (hm : m < 48) (h16 : a16 f = nI m) (H : wX_bring_193 post (nI f) x2 x3 R W k (nI 0) a1 a2 a3 a4 a5 a6 a7 a8 a9 a10 a11 a12 a13 a14 a15 a16 a17 a18 a19 a20 a21 a22 a23 a24) : wX_bring_126 post (nI f) x2 x3 (n + 1) (nI m) R W a1 a2 a3 a4 a5 a6 a7 a8 a9 a10 a11 a12 a13 a14 a15 a16 a17 a18 a19 a20 a21 a22 a23 a24 :=
  ⟨pk_in f 4 hf, br_t (by rw [nI_clamp (show f < 2 ^ 31 by omega), h16]; exact nI_le (Nat.le_refl m) (by omega)) ⟨k, H⟩⟩
theorem tg_b193S {post : Int32 → St2 → Prop} {n f t o s s' m : Nat} {x3 : Int32} (hf : f < 4) (ht : t < 4) (ho : o < 4) (hs : s < 48) (hs' : s' < 48) (hm : max s s' = m) (h : a8 (f * 4 + o) = nI s) (h' : a8 (t * 4 + o) = nI s') (H : wX_bring_193 post (nI f) (nI t) x3 R W n (nI (o + 1)) a1 a2 a3 a4 a5 a6 a7 (upd a8 (t * 4 + o) (nI m)) a9 a10 a11 a12 a13 a14 a15 a16 a17 a18 a19 a20 a21 a22 a23 a24) : wX_bring_193 post (nI f) (nI t) x3 R W (n + 1) (nI o) a1 a2 a3 a4 a5 a6 a7 a8 a9 a10 a11 a12 a13 a14 a15 a16 a17 a18 a19 a20 a21 a22 a23 a24 := by
  refine br_f (nI_ge (b := 4) ho (by decide)) ?_
  rw [tg_4 f o, tg_4 t o, nI_clamp (show f * 4 + o < 2 ^ 31 by omega), nI_clamp (show t * 4 + o < 2 ^ 31 by omega), h, h', nI_1]
  refine ⟨vp_in_nI (by omega) (by omega), nm_e ⟨vp_in_nI (by omega) (by omega), ?_⟩⟩
  by_cases hle : s ≤ s'
  · rw [show m = s' by omega, tg_us h'] at H
    exact br_t (nI_le hle (by omega)) (nm_e H)
  · rw [show m = s by omega] at H
    exact br_f (nI_ge (by omega) (by omega)) ⟨vp_in_nI (by omega) (by omega), nm_e (nm_e H)⟩
theorem tg_b193E {post : Int32 → St2 → Prop} {n f t cf ct : Nat} {x3 : Int32} (hf : f < 4) (ht : t < 4) (hc : cf ≤ ct) (hct : ct < 48) (h : a7 f = nI cf) (h' : a7 t = nI ct) (H : wpX_applyAll (fun u => post x3 u) (R, W, a1, a2, a3, a4, a5, a6, a7, a8, a9, a10, a11, a12, a13, a14, a15, a16, a17, a18, a19, a20, a21, a22, a23, a24) (nI t)) : wX_bring_193 post (nI f) (nI t) x3 R W (n + 1) (nI 4) a1 a2 a3 a4 a5 a6 a7 a8 a9 a10 a11 a12 a13 a14 a15 a16 a17 a18 a19 a20 a21 a22 a23 a24 :=
  br_t (by decide) ⟨pk_in f 4 hf, pk_in t 4 ht, br_t (by rw [nI_clamp (show f < 2 ^ 31 by omega), nI_clamp (show t < 2 ^ 31 by omega), h, h']; exact nI_le hc (by omega)) H⟩
theorem tg_bring {post : Int32 → St2 → Prop} {f t : Nat} (n : Nat) (hf : f < 3) (ht : t < 3) (hft : f ≠ t) (H : wX_bring_31 post (nI f) (nI t) 3 W a1 a2 a3 a4 a5 a6 a7 a8 a9 a10 a11 a12 a13 a14 a15 a16 a17 a18 a19 a20 a21 a22 a23 a24 n (nI 0) (nI 0)) : wpX_bring post (3, W, a1, a2, a3, a4, a5, a6, a7, a8, a9, a10, a11, a12, a13, a14, a15, a16, a17, a18, a19, a20, a21, a22, a23, a24) (nI f) (nI t) := by
  unfold wpX_bring
  dsimp only
  exact tg_bad hf (br_t rfl (tg_bad ht (br_t rfl (br_f (tg_ne hft (by omega) (by omega)) ⟨n, H⟩))))
theorem tg_t47S {post : St2 → Prop} {n t o s s' m : Nat} (ht : t < 4) (ho : o < 4) (hs : s < 48) (hs' : s' < 48) (hm : max s s' = m) (h : a9 (t * 4 + o) = nI s) (h' : a8 (t * 4 + o) = nI s') (H : wX_transferLog_47 post (nI t) R W n (nI (o + 1)) a1 a2 a3 a4 a5 a6 a7 (upd a8 (t * 4 + o) (nI m)) a9 a10 a11 a12 a13 a14 a15 a16 a17 a18 a19 a20 a21 a22 a23 a24) : wX_transferLog_47 post (nI t) R W (n + 1) (nI o) a1 a2 a3 a4 a5 a6 a7 a8 a9 a10 a11 a12 a13 a14 a15 a16 a17 a18 a19 a20 a21 a22 a23 a24 := by
  refine br_f (nI_ge (b := 4) ho (by decide)) ?_
  rw [tg_4 t o, nI_clamp (show t * 4 + o < 2 ^ 31 by omega), h, h', nI_1]
  refine ⟨vp_in_nI (by omega) (by omega), nm_e ⟨vp_in_nI (by omega) (by omega), ?_⟩⟩
  by_cases hle : s ≤ s'
  · rw [show m = s' by omega, tg_us h'] at H
    exact br_t (nI_le hle (by omega)) (nm_e H)
  · rw [show m = s by omega] at H
    exact br_f (nI_ge (by omega) (by omega)) ⟨vp_in_nI (by omega) (by omega), nm_e (nm_e H)⟩
theorem tg_t47E {post : St2 → Prop} {n : Nat} {x2 : Int32} (H : post (R, W, a1, a2, a3, a4, a5, a6, a7, a8, a9, a10, a11, a12, a13, a14, a15, a16, a17, a18, a19, a20, a21, a22, a23, a24)) : wX_transferLog_47 post x2 R W (n + 1) (nI 4) a1 a2 a3 a4 a5 a6 a7 a8 a9 a10 a11 a12 a13 a14 a15 a16 a17 a18 a19 a20 a21 a22 a23 a24 :=
  br_t (by decide) H
theorem tg_t15S {post : St2 → Prop} {n f t l i w : Nat} (hf : f < 4) (hl : l < 48) (hi : i < l) (h13 : a13 (f * 48 + i) = nI w)
    (hx : ∀ Q : St2 → Prop, (∀ z, Q (R, W, b1, b2, b3, b4, b5, b6, b7, b8, b9, b10, b11, b12, b13, b14, b15, b16, b17, b18, b19, b20, b21, b22, b23, z)) → wpX_fix Q (R, W, a1, a2, a3, a4, a5, a6, a7, a8, a9, a10, a11, a12, a13, a14, a15, a16, a17, a18, a19, a20, a21, a22, a23, a24) (nI t) (nI w))
    (H : ∀ z, wX_transferLog_15 post (nI f) (nI t) (nI l) n (nI (i + 1)) R W b1 b2 b3 b4 b5 b6 b7 b8 b9 b10 b11 b12 b13 b14 b15 b16 b17 b18 b19 b20 b21 b22 b23 z) : wX_transferLog_15 post (nI f) (nI t) (nI l) (n + 1) (nI i) R W a1 a2 a3 a4 a5 a6 a7 a8 a9 a10 a11 a12 a13 a14 a15 a16 a17 a18 a19 a20 a21 a22 a23 a24 := by
  refine br_f (nI_ge hi (by omega)) ⟨pk_in (f * 48 + i) 192 (by omega) (tg_48 f i), ?_⟩
  rw [tg_48, nI_clamp (show f * 48 + i < 2 ^ 31 by omega), h13]
  exact hx _ (fun z => nm_r (nI_1 i) (H z))
theorem tg_t15E {post : St2 → Prop} {n l : Nat} {x1 x2 : Int32} (k : Nat) (hl : l < 48) (H : wX_transferLog_47 post x2 R W k (nI 0) a1 a2 a3 a4 a5 a6 a7 a8 a9 a10 a11 a12 a13 a14 a15 a16 a17 a18 a19 a20 a21 a22 a23 a24) : wX_transferLog_15 post x1 x2 (nI l) (n + 1) (nI l) R W a1 a2 a3 a4 a5 a6 a7 a8 a9 a10 a11 a12 a13 a14 a15 a16 a17 a18 a19 a20 a21 a22 a23 a24 :=
  br_t (nI_le (Nat.le_refl l) (by omega)) ⟨k, H⟩
theorem tg_tl {post : St2 → Prop} {f t df dt : Nat} (n : Nat) (hf : f < 4) (ht : t < 4) (h : a10 f = nI df) (h' : a10 t = nI dt) (H : wX_transferLog_15 post (nI f) (nI t) (nI df) n (nI dt) R W a1 a2 a3 a4 a5 a6 a7 a8 a9 a10 a11 a12 a13 a14 a15 a16 a17 a18 a19 a20 a21 a22 a23 a24) : wpX_transferLog post (R, W, a1, a2, a3, a4, a5, a6, a7, a8, a9, a10, a11, a12, a13, a14, a15, a16, a17, a18, a19, a20, a21, a22, a23, a24) (nI f) (nI t) :=
  ⟨pk_in f 4 hf, nm_r (e' := nI df) (by rw [nI_clamp (show f < 2 ^ 31 by omega), h]) ⟨pk_in t 4 ht, nm_r (e' := nI dt) (by rw [nI_clamp (show t < 2 ^ 31 by omega), h']) ⟨n, H⟩⟩⟩
theorem tg_cS {post : Int32 → St2 → Prop} {n k i m w : Nat} (hk : k < 48) (hi : i < k) (hm : m < 47) (h16 : a16 0 = nI (m + 1)) (h18 : a18 0 = nI w)
    (hx : ∀ Q : St2 → Prop, (∀ z, Q (R, W, b1, b2, b3, b4, b5, b6, b7, b8, b9, b10, b11, b12, b13, b14, b15, b16, b17, b18, b19, b20, b21, b22, b23, z)) → wpX_fix Q (R, W, a1, a2, a3, a4, a5, a6, a7, a8, a9, a10, a11, a12, a13, a14, a15, a16, a17, a18, a19, a20, a21, a22, a23, a24) (nI 0) (nI w))
    (H : ∀ z, wX_commit_2 post (nI k) n (nI (i + 1)) R W b1 b2 b3 b4 b5 b6 b7 b8 b9 b10 b11 b12 b13 b14 b15 b16 b17 b18 b19 b20 b21 b22 b23 z) : wX_commit_2 post (nI k) (n + 1) (nI i) R W a1 a2 a3 a4 a5 a6 a7 a8 a9 a10 a11 a12 a13 a14 a15 a16 a17 a18 a19 a20 a21 a22 a23 a24 := by
  refine br_f (nI_ge hi (by omega)) (br_f (by rw [h16]; exact nI_nle (by omega) (by omega)) ?_)
  rw [h18]
  exact hx _ (fun z => nm_r (nI_1 i) (H z))
theorem tg_cE {post : Int32 → St2 → Prop} {n k : Nat} (hk : k < 48) (H : post (nI k) (R, W, a1, a2, a3, a4, a5, a6, a7, a8, a9, a10, a11, a12, a13, a14, a15, a16, a17, a18, a19, a20, a21, a22, a23, a24)) : wX_commit_2 post (nI k) (n + 1) (nI k) R W a1 a2 a3 a4 a5 a6 a7 a8 a9 a10 a11 a12 a13 a14 a15 a16 a17 a18 a19 a20 a21 a22 a23 a24 :=
  br_t (nI_le (Nat.le_refl k) (by omega)) H
theorem tg_cZ {post : Int32 → St2 → Prop} {n k i : Nat} (hk : k < 48) (hi : i < k) (h16 : a16 0 = nI 0) (H : post (nI i) (R, W, a1, a2, a3, a4, a5, a6, a7, a8, a9, a10, a11, a12, a13, a14, a15, a16, a17, a18, a19, a20, a21, a22, a23, a24)) : wX_commit_2 post (nI k) (n + 1) (nI i) R W a1 a2 a3 a4 a5 a6 a7 a8 a9 a10 a11 a12 a13 a14 a15 a16 a17 a18 a19 a20 a21 a22 a23 a24 :=
  br_f (nI_ge hi (by omega)) (br_t (by rw [h16]; decide) H)
theorem tg_commit {post : Int32 → St2 → Prop} {k : Nat} (n : Nat) (H : wX_commit_2 post (nI k) n (nI 0) R W a1 a2 a3 a4 a5 a6 a7 a8 a9 a10 a11 a12 a13 a14 a15 a16 a17 a18 a19 a20 a21 a22 a23 a24) : wpX_commit post (R, W, a1, a2, a3, a4, a5, a6, a7, a8, a9, a10, a11, a12, a13, a14, a15, a16, a17, a18, a19, a20, a21, a22, a23, a24) (nI k) := ⟨n, H⟩
end
end
section
/-! the questions -/
section
variable {R W : Int32} { a1 a2 a3 a4 a5 a6 a7 a8 a9 a10 a11 a12 a13 a14 a15 a16 a17 a18 a19 a20 a21 a22 a23 a24 : Nat → Int32}
theorem tg_cell {post : Int32 → Prop} {r c : Nat} {x : Int32} (hr : r < 3) (hc : c < 8) (h : a15 (r * 8 + c) = x) (H : post x) : wpX_cell post (3, W, a1, a2, a3, a4, a5, a6, a7, a8, a9, a10, a11, a12, a13, a14, a15, a16, a17, a18, a19, a20, a21, a22, a23, a24) (nI r) (nI c) := by
  unfold wpX_cell
  dsimp only
  exact tg_bad hr (br_t rfl (br_f (nI_pos (by omega)) (br_t (nI_le (b := 7) (by omega) (by decide)) ⟨pk_in (r * 8 + c) 32 (by omega) (tg_8 r c), by rw [tg_8, nI_clamp (by omega), h]; exact H⟩)))
theorem tg_stable {post : Int32 → Prop} {r c : Nat} {x : Int32} (hr : r < 3) (hc : c < 8) (h : a14 (r * 8 + c) = x) (H : post x) : wpX_stable post (3, W, a1, a2, a3, a4, a5, a6, a7, a8, a9, a10, a11, a12, a13, a14, a15, a16, a17, a18, a19, a20, a21, a22, a23, a24) (nI r) (nI c) := by
  unfold wpX_stable
  dsimp only
  exact tg_bad hr (br_t rfl (br_f (nI_pos (by omega)) (br_t (nI_le (b := 7) (by omega) (by decide)) ⟨pk_in (r * 8 + c) 32 (by omega) (tg_8 r c), by rw [tg_8, nI_clamp (by omega), h]; exact H⟩)))
theorem tg_committed {post : Int32 → Prop} {r : Nat} {x : Int32} (hr : r < 3) (h : a10 r = x) (H : post x) : wpX_committed post (3, W, a1, a2, a3, a4, a5, a6, a7, a8, a9, a10, a11, a12, a13, a14, a15, a16, a17, a18, a19, a20, a21, a22, a23, a24) (nI r) := by
  unfold wpX_committed
  dsimp only
  exact tg_bad hr (br_t rfl ⟨pk_in r 4 (by omega), by rw [nI_clamp (by omega), h]; exact H⟩)
theorem tg_known {post : Int32 → Prop} {r s0 s1 s2 s3 : Nat} (hr : r < 3) (h0 : a8 (r * 4 + 0) = nI s0) (h1 : a8 (r * 4 + 1) = nI s1) (h2 : a8 (r * 4 + 2) = nI s2) (h3 : a8 (r * 4 + 3) = nI s3) (H : post (nI (0 + s0 + s1 + s2 + s3))) : wpX_known post (3, W, a1, a2, a3, a4, a5, a6, a7, a8, a9, a10, a11, a12, a13, a14, a15, a16, a17, a18, a19, a20, a21, a22, a23, a24) (nI r) := by
  have S : ∀ (n o l s : Nat), o < 4 → a8 (r * 4 + o) = nI s → wX_known_14 post (nI r) 3 W a1 a2 a3 a4 a5 a6 a7 a8 a9 a10 a11 a12 a13 a14 a15 a16 a17 a18 a19 a20 a21 a22 a23 a24 n (nI (l + s)) (nI (o + 1)) → wX_known_14 post (nI r) 3 W a1 a2 a3 a4 a5 a6 a7 a8 a9 a10 a11 a12 a13 a14 a15 a16 a17 a18 a19 a20 a21 a22 a23 a24 (n + 1) (nI l) (nI o) := fun n o l s ho h hn =>
    br_f (nI_ge (b := 4) ho (by decide)) ⟨pk_in (r * 4 + o) 16 (by omega) (tg_4 r o), nm_r (e' := nI (l + s)) (by rw [tg_4, nI_clamp (by omega), h, nI_add]) (nm_r (nI_1 o) hn)⟩
  unfold wpX_known
  dsimp only
  exact tg_bad hr (br_t rfl ⟨5, S _ 0 0 s0 (by omega) h0 (S _ 1 _ s1 (by omega) h1 (S _ 2 _ s2 (by omega) h2 (S _ 3 _ s3 (by omega) h3 (br_t (by decide) H))))⟩)
theorem tg_outcome {post : Int32 → Prop} {u : St0} {x y v : Int32} (H : post (tg_O x y v)) : wpL_outcome post u x y v := by
  unfold tg_O at H
  by_cases h1 : x < v
  · rw [if_pos h1] at H
    by_cases h2 : y < v
    · rw [if_pos h2] at H
      exact br_t h1 (br_t h2 H)
    · rw [if_neg h2] at H
      exact br_t h1 (br_f h2 H)
  · rw [if_neg h1] at H
    exact br_f h1 H
theorem tg_taken {post : Int32 → Prop} {r : Nat} {x y v : Int32} (hr : r < 3) (h3 : a15 (r * 8 + 3) = tg_P x v) (h4 : a15 (r * 8 + 4) = tg_Q x y v) (H : post 1) : wpL_taken post (3, W, a1, a2, a3, a4, a5, a6, a7, a8, a9, a10, a11, a12, a13, a14, a15, a16, a17, a18, a19, a20, a21, a22, a23, a24) (nI r) x y v := by
  have L : ∀ p q : Int32, tg_P x v = p → tg_Q x y v = q → wL_taken_36 post (nI r) p q 3 W a1 a2 a3 a4 a5 a6 a7 a8 a9 a10 a11 a12 a13 a14 a15 a16 a17 a18 a19 a20 a21 a22 a23 a24 := fun p q hp hq => by
    unfold wL_taken_36
    exact tg_cell (c := 3) hr (by omega) (h3.trans hp) (br_t rfl (tg_cell (c := 4) hr (by omega) (h4.trans hq) (br_t rfl H)))
  unfold wpL_taken
  dsimp only
  by_cases h1 : x < v
  · have n1 : ¬ v ≤ x := fun z => absurd (Int32.lt_of_lt_of_le h1 z) Int32.lt_irrefl
    have e1 : tg_P x v = x := if_pos h1
    by_cases h2 : y < v
    · have e2 : tg_Q x y v = y := by
        unfold tg_Q
        rw [if_pos h1, if_pos h2]
      exact br_t h1 (br_f n1 (br_t h2 (L x y e1 e2)))
    · have e2 : tg_Q x y v = y - v := by
        unfold tg_Q
        rw [if_pos h1, if_neg h2]
      exact br_t h1 (br_f n1 (br_f h2 (L x (y - v) e1 e2)))
  · exact br_f h1 (br_t (Int32.not_lt.mp h1) (L (x - v) y (if_neg h1) (if_neg h1)))
theorem tg_s72H {post : Int32 → Prop} {n r w m i : Nat} {o : Int32} (hr : r < 4) (hm : m < 48) (hi : i < m) (h16 : a16 r = nI m) (h18 : a18 (r * 48 + i) = nI w) (h19 : a19 (r * 48 + i) = o) (H : post o) : wX_standing_72 post (nI r) (nI w) R W a1 a2 a3 a4 a5 a6 a7 a8 a9 a10 a11 a12 a13 a14 a15 a16 a17 a18 a19 a20 a21 a22 a23 a24 (n + 1) (nI i) := by
  refine ⟨pk_in r 4 hr, br_f (by rw [nI_clamp (by omega), h16]; exact nI_ge hi (by omega)) ⟨pk_in (r * 48 + i) 192 (by omega) (tg_48 r i), br_t (by rw [tg_48, nI_clamp (by omega), h18]) ⟨pk_in (r * 48 + i) 192 (by omega) (tg_48 r i), ?_⟩⟩⟩
  rw [tg_48, nI_clamp (by omega), h19]
  exact H
theorem tg_s72S {post : Int32 → Prop} {n r w m i q : Nat} (hr : r < 4) (hm : m < 48) (hi : i < m) (hq : q < 48) (hw : w < 48) (hqw : q ≠ w) (h16 : a16 r = nI m) (h18 : a18 (r * 48 + i) = nI q) (H : wX_standing_72 post (nI r) (nI w) R W a1 a2 a3 a4 a5 a6 a7 a8 a9 a10 a11 a12 a13 a14 a15 a16 a17 a18 a19 a20 a21 a22 a23 a24 n (nI (i + 1))) : wX_standing_72 post (nI r) (nI w) R W a1 a2 a3 a4 a5 a6 a7 a8 a9 a10 a11 a12 a13 a14 a15 a16 a17 a18 a19 a20 a21 a22 a23 a24 (n + 1) (nI i) :=
  ⟨pk_in r 4 hr, br_f (by rw [nI_clamp (by omega), h16]; exact nI_ge hi (by omega)) ⟨pk_in (r * 48 + i) 192 (by omega) (tg_48 r i), br_f (by rw [tg_48, nI_clamp (by omega), h18]; exact tg_ne hqw (by omega) (by omega)) (nm_r (nI_1 i) H)⟩⟩
/-- a write that the replica doesn't know -/
theorem tg_stU {post : Int32 → Prop} {r w m og tn s : Nat} (hr : r < 3) (hw : w < m) (hm : m < 48) (hog : og < 4) (hs : s ≤ tn) (htn : tn < 48) (h1 : a1 w = nI og) (h2 : a2 w = nI tn) (h8 : a8 (r * 4 + og) = nI s) (H : post 0) : wpX_standing post (3, nI m, a1, a2, a3, a4, a5, a6, a7, a8, a9, a10, a11, a12, a13, a14, a15, a16, a17, a18, a19, a20, a21, a22, a23, a24) (nI r) (nI w) := by
  unfold wpX_standing
  dsimp only
  refine tg_bad hr (br_t rfl (br_f (nI_pos (by omega)) (br_t (nI_lt hw (by omega)) ⟨pk_in w 48 (by omega), nm_r (e' := nI (r * 4 + og)) (by rw [nI_clamp (by omega), h1, tg_4]) ⟨pk_in w 48 (by omega), vp_in_nI (by omega) (by omega), br_f ?_ H⟩⟩)))
  rw [nI_clamp (show w < 2 ^ 31 by omega), nI_clamp (show r * 4 + og < 2 ^ 31 by omega), h2, h8]
  exact nI_nlt hs (by omega)
/-- a committed write -/
theorem tg_stC {post : Int32 → Prop} {r w m og tn s f : Nat} (hr : r < 3) (hw : w < m) (hm : m < 48) (hog : og < 4) (hs : tn < s) (hs48 : s < 48) (hf : tn < f) (hf48 : f < 48) (h1 : a1 w = nI og) (h2 : a2 w = nI tn) (h8 : a8 (r * 4 + og) = nI s) (h9 : a9 (r * 4 + og) = nI f) (H : post 1) : wpX_standing post (3, nI m, a1, a2, a3, a4, a5, a6, a7, a8, a9, a10, a11, a12, a13, a14, a15, a16, a17, a18, a19, a20, a21, a22, a23, a24) (nI r) (nI w) := by
  have ew : (nI w).toNatClampNeg = w := nI_clamp (by omega)
  have eo : (nI (r * 4 + og)).toNatClampNeg = r * 4 + og := nI_clamp (by omega)
  unfold wpX_standing
  dsimp only
  refine tg_bad hr (br_t rfl (br_f (nI_pos (by omega)) (br_t (nI_lt hw (by omega)) ⟨pk_in w 48 (by omega), nm_r (e' := nI (r * 4 + og)) (by rw [ew, h1, tg_4]) ⟨pk_in w 48 (by omega), vp_in_nI (by omega) (by omega), br_t (by rw [ew, eo, h2, h8]; exact nI_lt hs (by omega)) ⟨pk_in w 48 (by omega), vp_in_nI (by omega) (by omega), br_f (by rw [ew, eo, h2, h9]; exact nI_ge hf (by omega)) H⟩⟩⟩)))
/-- a tentative write -/
theorem tg_stT {post : Int32 → Prop} {r w m og tn s f : Nat} (n : Nat) (hr : r < 3) (hw : w < m) (hm : m < 48) (hog : og < 4) (hs : tn < s) (hs48 : s < 48) (hf : f ≤ tn) (h1 : a1 w = nI og) (h2 : a2 w = nI tn) (h8 : a8 (r * 4 + og) = nI s) (h9 : a9 (r * 4 + og) = nI f) (H : wX_standing_72 post (nI r) (nI w) 3 (nI m) a1 a2 a3 a4 a5 a6 a7 a8 a9 a10 a11 a12 a13 a14 a15 a16 a17 a18 a19 a20 a21 a22 a23 a24 n (nI 0)) : wpX_standing post (3, nI m, a1, a2, a3, a4, a5, a6, a7, a8, a9, a10, a11, a12, a13, a14, a15, a16, a17, a18, a19, a20, a21, a22, a23, a24) (nI r) (nI w) := by
  have ew : (nI w).toNatClampNeg = w := nI_clamp (by omega)
  have eo : (nI (r * 4 + og)).toNatClampNeg = r * 4 + og := nI_clamp (by omega)
  unfold wpX_standing
  dsimp only
  refine tg_bad hr (br_t rfl (br_f (nI_pos (by omega)) (br_t (nI_lt hw (by omega)) ⟨pk_in w 48 (by omega), nm_r (e' := nI (r * 4 + og)) (by rw [ew, h1, tg_4]) ⟨pk_in w 48 (by omega), vp_in_nI (by omega) (by omega), br_t (by rw [ew, eo, h2, h8]; exact nI_lt hs (by omega)) ⟨pk_in w 48 (by omega), vp_in_nI (by omega) (by omega), br_t (by rw [ew, eo, h2, h9]; exact nI_le hf (by omega)) ⟨n, H⟩⟩⟩⟩)))
theorem tg_init {post : St2 → Prop} (H : post (3, 0, fun _ => 0, fun _ => 0, fun _ => 0, fun _ => 0, fun _ => 0, fun _ => 0, fun _ => 0, fun _ => 0, fun _ => 0, fun _ => 0, fun _ => 0, fun _ => 0, fun _ => 0, fun _ => 0, fun _ => 0, fun _ => 0, fun _ => 0, fun _ => 0, fun _ => 0, fun _ => 0, fun _ => 0, fun _ => 0, fun _ => 0, fun _ => 0)) : wpX_init post 24 1760 (0, 0) 3 := by
  unfold wpX_init
  dsimp only
  iterate 48 refine ⟨by decide, ?_⟩
  exact br_t (by decide) (br_t (by decide) H)
end
end
section
/-! the states of the law, one array a row; then the law's calls that change the state -/
abbrev tg_S1_1 (a b d : Int32) : Nat → Int32 := upd (fun _ => 0) 0 (nI 1)
abbrev tg_S1_2 (a b d : Int32) : Nat → Int32 := upd (fun _ => 0) 0 (nI 0)
abbrev tg_S1_3 (a b d : Int32) : Nat → Int32 := upd (fun _ => 0) 0 (nI 1)
abbrev tg_S1_4 (a b d : Int32) : Nat → Int32 := upd (fun _ => 0) 0 (nI 0)
abbrev tg_S1_5 (a b d : Int32) : Nat → Int32 := upd (fun _ => 0) 0 (nI 3)
abbrev tg_S1_6 (a b d : Int32) : Nat → Int32 := upd (fun _ => 0) 0 a
abbrev tg_S1_7 (a b d : Int32) : Nat → Int32 := upd (fun _ => 0) 1 (nI 1)
abbrev tg_S1_8 (a b d : Int32) : Nat → Int32 := upd (fun _ => 0) 5 (nI 1)
abbrev tg_S1_15 (a b d : Int32) : Nat → Int32 := upd (upd (fun _ => 0) 11 a) 12 0
abbrev tg_S1_16 (a b d : Int32) : Nat → Int32 := upd (fun _ => 0) 1 (nI 1)
abbrev tg_S1_17 (a b d : Int32) : Nat → Int32 := upd (fun _ => 0) 1 (nI 1)
abbrev tg_S1_18 (a b d : Int32) : Nat → Int32 := upd (fun _ => 0) 48 (nI 0)
abbrev tg_S1_19 (a b d : Int32) : Nat → Int32 := upd (fun _ => 0) 48 2
abbrev tg_S1_20 (a b d : Int32) : Nat → Int32 := upd (fun _ => 0) 48 (nI 3)
abbrev tg_S1_21 (a b d : Int32) : Nat → Int32 := upd (fun _ => 0) 48 0
abbrev tg_S1_22 (a b d : Int32) : Nat → Int32 := upd (fun _ => 0) 48 (nI 4)
abbrev tg_S1_23 (a b d : Int32) : Nat → Int32 := upd (fun _ => 0) 48 0
abbrev tg_S2_1 (a b d : Int32) : Nat → Int32 := upd (tg_S1_1 a b d) 1 (nI 2)
abbrev tg_S2_2 (a b d : Int32) : Nat → Int32 := upd (tg_S1_2 a b d) 1 (nI 0)
abbrev tg_S2_3 (a b d : Int32) : Nat → Int32 := upd (tg_S1_3 a b d) 1 (nI 1)
abbrev tg_S2_4 (a b d : Int32) : Nat → Int32 := upd (tg_S1_4 a b d) 1 (nI 2)
abbrev tg_S2_5 (a b d : Int32) : Nat → Int32 := upd (tg_S1_5 a b d) 1 (nI 3)
abbrev tg_S2_6 (a b d : Int32) : Nat → Int32 := upd (tg_S1_6 a b d) 1 b
abbrev tg_S2_7 (a b d : Int32) : Nat → Int32 := upd (tg_S1_7 a b d) 2 (nI 1)
abbrev tg_S2_8 (a b d : Int32) : Nat → Int32 := upd (tg_S1_8 a b d) 10 (nI 1)
abbrev tg_S2_15 (a b d : Int32) : Nat → Int32 := upd (upd (tg_S1_15 a b d) 19 (tg_P 0 b)) 20 (tg_Q 0 0 b)
abbrev tg_S2_16 (a b d : Int32) : Nat → Int32 := upd (tg_S1_16 a b d) 2 (nI 1)
abbrev tg_S2_17 (a b d : Int32) : Nat → Int32 := upd (tg_S1_17 a b d) 2 (nI 1)
abbrev tg_S2_18 (a b d : Int32) : Nat → Int32 := upd (tg_S1_18 a b d) 96 (nI 1)
abbrev tg_S2_19 (a b d : Int32) : Nat → Int32 := upd (tg_S1_19 a b d) 96 (tg_O 0 0 b)
abbrev tg_S2_20 (a b d : Int32) : Nat → Int32 := upd (tg_S1_20 a b d) 96 (nI 3)
abbrev tg_S2_21 (a b d : Int32) : Nat → Int32 := upd (tg_S1_21 a b d) 96 0
abbrev tg_S2_22 (a b d : Int32) : Nat → Int32 := upd (tg_S1_22 a b d) 96 (nI 4)
abbrev tg_S2_23 (a b d : Int32) : Nat → Int32 := upd (tg_S1_23 a b d) 96 0
abbrev tg_S3_1 (a b d : Int32) : Nat → Int32 := upd (tg_S2_1 a b d) 2 (nI 0)
abbrev tg_S3_2 (a b d : Int32) : Nat → Int32 := upd (tg_S2_2 a b d) 2 (nI 0)
abbrev tg_S3_3 (a b d : Int32) : Nat → Int32 := upd (tg_S2_3 a b d) 2 (nI 1)
abbrev tg_S3_4 (a b d : Int32) : Nat → Int32 := upd (tg_S2_4 a b d) 2 (nI 0)
abbrev tg_S3_5 (a b d : Int32) : Nat → Int32 := upd (tg_S2_5 a b d) 2 (nI 4)
abbrev tg_S3_6 (a b d : Int32) : Nat → Int32 := upd (tg_S2_6 a b d) 2 d
abbrev tg_S3_7 (a b d : Int32) : Nat → Int32 := upd (tg_S2_7 a b d) 0 (nI 1)
abbrev tg_S3_8 (a b d : Int32) : Nat → Int32 := upd (tg_S2_8 a b d) 0 (nI 1)
abbrev tg_S3_15 (a b d : Int32) : Nat → Int32 := upd (upd (tg_S2_15 a b d) 4 d) 5 0
abbrev tg_S3_16 (a b d : Int32) : Nat → Int32 := upd (tg_S2_16 a b d) 0 (nI 1)
abbrev tg_S3_17 (a b d : Int32) : Nat → Int32 := upd (tg_S2_17 a b d) 0 (nI 1)
abbrev tg_S3_18 (a b d : Int32) : Nat → Int32 := upd (tg_S2_18 a b d) 0 (nI 2)
abbrev tg_S3_19 (a b d : Int32) : Nat → Int32 := upd (tg_S2_19 a b d) 0 2
abbrev tg_S3_20 (a b d : Int32) : Nat → Int32 := upd (tg_S2_20 a b d) 0 (nI 4)
abbrev tg_S3_21 (a b d : Int32) : Nat → Int32 := upd (tg_S2_21 a b d) 0 0
abbrev tg_S3_22 (a b d : Int32) : Nat → Int32 := upd (tg_S2_22 a b d) 0 (nI 5)
abbrev tg_S3_23 (a b d : Int32) : Nat → Int32 := upd (tg_S2_23 a b d) 0 0
abbrev tg_S4_8 (a b d : Int32) : Nat → Int32 := upd (upd (upd (upd (tg_S3_8 a b d) 8 (nI 0)) 9 (nI 1)) 10 (nI 1)) 11 (nI 0)
abbrev tg_S4_15 (a b d : Int32) : Nat → Int32 := upd (upd (upd (upd (upd (upd (tg_S3_15 a b d) 20 0) 19 0) 19 a) 20 0) 19 (tg_P a b)) 20 (tg_Q a 0 b)
abbrev tg_S4_16 (a b d : Int32) : Nat → Int32 := upd (tg_S3_16 a b d) 2 (nI 2)
abbrev tg_S4_17 (a b d : Int32) : Nat → Int32 := upd (upd (tg_S3_17 a b d) 2 (nI 0)) 2 (nI 2)
abbrev tg_S4_18 (a b d : Int32) : Nat → Int32 := upd (upd (tg_S3_18 a b d) 97 (nI 1)) 96 (nI 0)
abbrev tg_S4_19 (a b d : Int32) : Nat → Int32 := upd (upd (tg_S3_19 a b d) 96 2) 97 (tg_O a 0 b)
abbrev tg_S4_20 (a b d : Int32) : Nat → Int32 := upd (upd (tg_S3_20 a b d) 96 (nI 3)) 97 (nI 3)
abbrev tg_S4_21 (a b d : Int32) : Nat → Int32 := upd (upd (tg_S3_21 a b d) 96 0) 97 a
abbrev tg_S4_22 (a b d : Int32) : Nat → Int32 := upd (upd (tg_S3_22 a b d) 96 (nI 4)) 97 (nI 4)
abbrev tg_S4_23 (a b d : Int32) : Nat → Int32 := upd (upd (tg_S3_23 a b d) 96 0) 97 0
abbrev tg_S5_8 (a b d : Int32) : Nat → Int32 := upd (upd (upd (upd (tg_S4_8 a b d) 8 (nI 1)) 9 (nI 1)) 10 (nI 1)) 11 (nI 0)
abbrev tg_S5_15 (a b d : Int32) : Nat → Int32 := upd (upd (upd (upd (upd (upd (upd (upd (upd (upd (tg_S4_15 a b d) 20 0) 19 a) 20 0) 19 0) 20 d) 21 0) 19 a) 20 d) 19 (tg_P a b)) 20 (tg_Q a d b)
abbrev tg_S5_16 (a b d : Int32) : Nat → Int32 := upd (tg_S4_16 a b d) 2 (nI 3)
abbrev tg_S5_17 (a b d : Int32) : Nat → Int32 := upd (upd (upd (tg_S4_17 a b d) 2 (nI 1)) 2 (nI 0)) 2 (nI 3)
abbrev tg_S5_18 (a b d : Int32) : Nat → Int32 := upd (upd (upd (tg_S4_18 a b d) 98 (nI 1)) 97 (nI 0)) 96 (nI 2)
abbrev tg_S5_19 (a b d : Int32) : Nat → Int32 := upd (upd (upd (tg_S4_19 a b d) 96 2) 97 2) 98 (tg_O a d b)
abbrev tg_S5_20 (a b d : Int32) : Nat → Int32 := upd (upd (upd (tg_S4_20 a b d) 96 (nI 4)) 97 (nI 3)) 98 (nI 3)
abbrev tg_S5_21 (a b d : Int32) : Nat → Int32 := upd (upd (upd (tg_S4_21 a b d) 96 0) 97 0) 98 a
abbrev tg_S5_22 (a b d : Int32) : Nat → Int32 := upd (upd (upd (tg_S4_22 a b d) 96 (nI 5)) 97 (nI 4)) 98 (nI 4)
abbrev tg_S5_23 (a b d : Int32) : Nat → Int32 := upd (upd (upd (tg_S4_23 a b d) 96 0) 97 d) 98 d
abbrev tg_S6_8 (a b d : Int32) : Nat → Int32 := upd (upd (upd (upd (tg_S5_8 a b d) 0 (nI 1)) 1 (nI 1)) 2 (nI 1)) 3 (nI 0)
abbrev tg_S6_15 (a b d : Int32) : Nat → Int32 := upd (upd (upd (upd (tg_S5_15 a b d) 3 a) 4 d) 3 (tg_P a b)) 4 (tg_Q a d b)
abbrev tg_S6_16 (a b d : Int32) : Nat → Int32 := upd (upd (tg_S5_16 a b d) 0 (nI 2)) 0 (nI 3)
abbrev tg_S6_17 (a b d : Int32) : Nat → Int32 := upd (tg_S5_17 a b d) 0 (nI 3)
abbrev tg_S6_18 (a b d : Int32) : Nat → Int32 := upd (upd (tg_S5_18 a b d) 1 (nI 0)) 2 (nI 1)
abbrev tg_S6_19 (a b d : Int32) : Nat → Int32 := upd (upd (tg_S5_19 a b d) 1 2) 2 (tg_O a d b)
abbrev tg_S6_20 (a b d : Int32) : Nat → Int32 := upd (upd (tg_S5_20 a b d) 1 (nI 3)) 2 (nI 3)
abbrev tg_S6_21 (a b d : Int32) : Nat → Int32 := upd (upd (tg_S5_21 a b d) 1 0) 2 a
abbrev tg_S6_22 (a b d : Int32) : Nat → Int32 := upd (upd (tg_S5_22 a b d) 1 (nI 4)) 2 (nI 4)
abbrev tg_S6_23 (a b d : Int32) : Nat → Int32 := upd (upd (tg_S5_23 a b d) 1 d) 2 d
abbrev tg_S20_9 (a b d : Int32) : Nat → Int32 := upd (fun _ => 0) 0 (nI 1)
abbrev tg_S20_10 (a b d : Int32) : Nat → Int32 := upd (fun _ => 0) 0 (nI 1)
abbrev tg_S20_13 (a b d : Int32) : Nat → Int32 := upd (fun _ => 0) 0 (nI 2)
abbrev tg_S20_14 (a b d : Int32) : Nat → Int32 := upd (upd (fun _ => 0) 4 d) 5 0
abbrev tg_S20_16 (a b d : Int32) : Nat → Int32 := upd (tg_S6_16 a b d) 0 (nI 2)
abbrev tg_S20_17 (a b d : Int32) : Nat → Int32 := upd (tg_S6_17 a b d) 0 (nI 2)
abbrev tg_S20_18 (a b d : Int32) : Nat → Int32 := upd (upd (tg_S6_18 a b d) 0 (nI 0)) 1 (nI 1)
abbrev tg_S20_19 (a b d : Int32) : Nat → Int32 := upd (upd (tg_S6_19 a b d) 0 2) 1 (tg_O a d b)
abbrev tg_S20_20 (a b d : Int32) : Nat → Int32 := upd (upd (tg_S6_20 a b d) 0 (nI 3)) 1 (nI 3)
abbrev tg_S20_21 (a b d : Int32) : Nat → Int32 := upd (upd (tg_S6_21 a b d) 0 0) 1 a
abbrev tg_S20_22 (a b d : Int32) : Nat → Int32 := upd (upd (tg_S6_22 a b d) 0 (nI 4)) 1 (nI 4)
abbrev tg_S20_23 (a b d : Int32) : Nat → Int32 := upd (upd (tg_S6_23 a b d) 0 d) 1 d
abbrev tg_S7_9 (a b d : Int32) : Nat → Int32 := upd (tg_S20_9 a b d) 1 (nI 1)
abbrev tg_S7_10 (a b d : Int32) : Nat → Int32 := upd (tg_S20_10 a b d) 0 (nI 2)
abbrev tg_S7_13 (a b d : Int32) : Nat → Int32 := upd (tg_S20_13 a b d) 1 (nI 0)
abbrev tg_S7_14 (a b d : Int32) : Nat → Int32 := upd (upd (tg_S20_14 a b d) 3 a) 4 d
abbrev tg_S7_16 (a b d : Int32) : Nat → Int32 := upd (tg_S20_16 a b d) 0 (nI 1)
abbrev tg_S7_17 (a b d : Int32) : Nat → Int32 := upd (tg_S20_17 a b d) 0 (nI 1)
abbrev tg_S7_18 (a b d : Int32) : Nat → Int32 := upd (tg_S20_18 a b d) 0 (nI 1)
abbrev tg_S7_19 (a b d : Int32) : Nat → Int32 := upd (tg_S20_19 a b d) 0 (tg_O a d b)
abbrev tg_S7_20 (a b d : Int32) : Nat → Int32 := upd (tg_S20_20 a b d) 0 (nI 3)
abbrev tg_S7_21 (a b d : Int32) : Nat → Int32 := upd (tg_S20_21 a b d) 0 a
abbrev tg_S7_22 (a b d : Int32) : Nat → Int32 := upd (tg_S20_22 a b d) 0 (nI 4)
abbrev tg_S7_23 (a b d : Int32) : Nat → Int32 := upd (tg_S20_23 a b d) 0 d
abbrev tg_S8_9 (a b d : Int32) : Nat → Int32 := upd (tg_S7_9 a b d) 2 (nI 1)
abbrev tg_S8_10 (a b d : Int32) : Nat → Int32 := upd (tg_S7_10 a b d) 0 (nI 3)
abbrev tg_S8_13 (a b d : Int32) : Nat → Int32 := upd (tg_S7_13 a b d) 2 (nI 1)
abbrev tg_S8_14 (a b d : Int32) : Nat → Int32 := upd (upd (tg_S7_14 a b d) 3 (tg_P a b)) 4 (tg_Q a d b)
abbrev tg_S8_16 (a b d : Int32) : Nat → Int32 := upd (tg_S7_16 a b d) 0 (nI 0)
abbrev tg_S8_17 (a b d : Int32) : Nat → Int32 := upd (tg_S7_17 a b d) 0 (nI 0)
abbrev tg_S9_9 (a b d : Int32) : Nat → Int32 := upd (tg_S8_9 a b d) 4 (nI 1)
abbrev tg_S9_10 (a b d : Int32) : Nat → Int32 := upd (tg_S8_10 a b d) 1 (nI 1)
abbrev tg_S9_13 (a b d : Int32) : Nat → Int32 := upd (tg_S8_13 a b d) 48 (nI 2)
abbrev tg_S9_14 (a b d : Int32) : Nat → Int32 := upd (upd (tg_S8_14 a b d) 12 d) 13 0
abbrev tg_S9_15 (a b d : Int32) : Nat → Int32 := tg_put (upd (upd (tg_S6_15 a b d) 12 0) 11 0) 8 (fun j => tg_S9_14 a b d (8 + j)) 8
abbrev tg_S9_17 (a b d : Int32) : Nat → Int32 := upd (tg_S8_17 a b d) 1 (nI 0)
abbrev tg_S10_9 (a b d : Int32) : Nat → Int32 := upd (tg_S9_9 a b d) 5 (nI 1)
abbrev tg_S10_10 (a b d : Int32) : Nat → Int32 := upd (tg_S9_10 a b d) 1 (nI 2)
abbrev tg_S10_13 (a b d : Int32) : Nat → Int32 := upd (tg_S9_13 a b d) 49 (nI 0)
abbrev tg_S10_14 (a b d : Int32) : Nat → Int32 := upd (upd (tg_S9_14 a b d) 11 a) 12 d
abbrev tg_S10_15 (a b d : Int32) : Nat → Int32 := tg_put (tg_S9_15 a b d) 8 (fun j => tg_S10_14 a b d (8 + j)) 8
abbrev tg_S10_16 (a b d : Int32) : Nat → Int32 := upd (tg_S8_16 a b d) 1 (nI 0)
abbrev tg_S11_9 (a b d : Int32) : Nat → Int32 := upd (tg_S10_9 a b d) 6 (nI 1)
abbrev tg_S11_10 (a b d : Int32) : Nat → Int32 := upd (tg_S10_10 a b d) 1 (nI 3)
abbrev tg_S11_13 (a b d : Int32) : Nat → Int32 := upd (tg_S10_13 a b d) 50 (nI 1)
abbrev tg_S11_14 (a b d : Int32) : Nat → Int32 := upd (upd (tg_S10_14 a b d) 11 (tg_P a b)) 12 (tg_Q a d b)
abbrev tg_S11_15 (a b d : Int32) : Nat → Int32 := tg_put (tg_S10_15 a b d) 8 (fun j => tg_S11_14 a b d (8 + j)) 8
abbrev tg_S12_8 (a b d : Int32) : Nat → Int32 := upd (upd (upd (upd (tg_S6_8 a b d) 4 (nI 1)) 5 (nI 1)) 6 (nI 1)) 7 (nI 0)
abbrev tg_S13_8 (a b d : Int32) : Nat → Int32 := upd (upd (upd (upd (tg_S12_8 a b d) 4 (nI 1)) 5 (nI 1)) 6 (nI 1)) 7 (nI 0)
abbrev tg_S13_17 (a b d : Int32) : Nat → Int32 := upd (tg_S9_17 a b d) 1 (nI 0)
theorem tg_w1 {post : Int32 → St2 → Prop} {a b d : Int32} {z : Nat → Int32} (H : ∀ z, post (nI 0) (3, nI 1, tg_S1_1 a b d, tg_S1_2 a b d, tg_S1_3 a b d, tg_S1_4 a b d, tg_S1_5 a b d, tg_S1_6 a b d, tg_S1_7 a b d, tg_S1_8 a b d, fun _ => 0, fun _ => 0, fun _ => 0, fun _ => 0, fun _ => 0, fun _ => 0, tg_S1_15 a b d, tg_S1_16 a b d, tg_S1_17 a b d, tg_S1_18 a b d, tg_S1_19 a b d, tg_S1_20 a b d, tg_S1_21 a b d, tg_S1_22 a b d, tg_S1_23 a b d, z)) : wpX_write post (3, nI 0, fun _ => 0, fun _ => 0, fun _ => 0, fun _ => 0, fun _ => 0, fun _ => 0, fun _ => 0, fun _ => 0, fun _ => 0, fun _ => 0, fun _ => 0, fun _ => 0, fun _ => 0, fun _ => 0, fun _ => 0, fun _ => 0, fun _ => 0, fun _ => 0, fun _ => 0, fun _ => 0, fun _ => 0, fun _ => 0, fun _ => 0, z) 1 0 3 a :=
  tg_write (w := 0) (r := 1) (k := 0) (c := 3) (x := 0) (y := 0) (o := 2) (p := a) (q := 0) (by omega) (by omega) (by omega) (by omega) rfl rfl rfl rfl rfl rfl (tg_pfS 0 0 a) H
theorem tg_w2 {post : Int32 → St2 → Prop} {a b d : Int32} {z : Nat → Int32} (H : ∀ z, post (nI 1) (3, nI 2, tg_S2_1 a b d, tg_S2_2 a b d, tg_S2_3 a b d, tg_S2_4 a b d, tg_S2_5 a b d, tg_S2_6 a b d, tg_S2_7 a b d, tg_S2_8 a b d, fun _ => 0, fun _ => 0, fun _ => 0, fun _ => 0, fun _ => 0, fun _ => 0, tg_S2_15 a b d, tg_S2_16 a b d, tg_S2_17 a b d, tg_S2_18 a b d, tg_S2_19 a b d, tg_S2_20 a b d, tg_S2_21 a b d, tg_S2_22 a b d, tg_S2_23 a b d, z)) : wpX_write post (3, nI 1, tg_S1_1 a b d, tg_S1_2 a b d, tg_S1_3 a b d, tg_S1_4 a b d, tg_S1_5 a b d, tg_S1_6 a b d, tg_S1_7 a b d, tg_S1_8 a b d, fun _ => 0, fun _ => 0, fun _ => 0, fun _ => 0, fun _ => 0, fun _ => 0, tg_S1_15 a b d, tg_S1_16 a b d, tg_S1_17 a b d, tg_S1_18 a b d, tg_S1_19 a b d, tg_S1_20 a b d, tg_S1_21 a b d, tg_S1_22 a b d, tg_S1_23 a b d, z) 2 2 3 b :=
  tg_write (w := 1) (r := 2) (k := 2) (c := 3) (x := 0) (y := 0) (by omega) (by omega) (by omega) (by omega) rfl rfl rfl rfl rfl rfl (tg_pfT 0 0 b) H
theorem tg_w3 {post : Int32 → St2 → Prop} {a b d : Int32} {z : Nat → Int32} (H : ∀ z, post (nI 2) (3, nI 3, tg_S3_1 a b d, tg_S3_2 a b d, tg_S3_3 a b d, tg_S3_4 a b d, tg_S3_5 a b d, tg_S3_6 a b d, tg_S3_7 a b d, tg_S3_8 a b d, fun _ => 0, fun _ => 0, fun _ => 0, fun _ => 0, fun _ => 0, fun _ => 0, tg_S3_15 a b d, tg_S3_16 a b d, tg_S3_17 a b d, tg_S3_18 a b d, tg_S3_19 a b d, tg_S3_20 a b d, tg_S3_21 a b d, tg_S3_22 a b d, tg_S3_23 a b d, z)) : wpX_write post (3, nI 2, tg_S2_1 a b d, tg_S2_2 a b d, tg_S2_3 a b d, tg_S2_4 a b d, tg_S2_5 a b d, tg_S2_6 a b d, tg_S2_7 a b d, tg_S2_8 a b d, fun _ => 0, fun _ => 0, fun _ => 0, fun _ => 0, fun _ => 0, fun _ => 0, tg_S2_15 a b d, tg_S2_16 a b d, tg_S2_17 a b d, tg_S2_18 a b d, tg_S2_19 a b d, tg_S2_20 a b d, tg_S2_21 a b d, tg_S2_22 a b d, tg_S2_23 a b d, z) 0 0 4 d :=
  tg_write (w := 2) (r := 0) (k := 0) (c := 4) (x := 0) (y := 0) (by omega) (by omega) (by omega) (by omega) rfl rfl rfl rfl rfl rfl (tg_pfS 0 0 d) H
end
section
/-! the law's meetings and commits, state by state -/
theorem tg_b12 {post : Int32 → St2 → Prop} {a b d : Int32} {z : Nat → Int32} (H : ∀ z, post (nI 1) (3, nI 3, tg_S3_1 a b d, tg_S3_2 a b d, tg_S3_3 a b d, tg_S3_4 a b d, tg_S3_5 a b d, tg_S3_6 a b d, tg_S3_7 a b d, tg_S4_8 a b d, fun _ => 0, fun _ => 0, fun _ => 0, fun _ => 0, fun _ => 0, fun _ => 0, tg_S4_15 a b d, tg_S4_16 a b d, tg_S4_17 a b d, tg_S4_18 a b d, tg_S4_19 a b d, tg_S4_20 a b d, tg_S4_21 a b d, tg_S4_22 a b d, tg_S4_23 a b d, z)) : wpX_bring post (3, nI 3, tg_S3_1 a b d, tg_S3_2 a b d, tg_S3_3 a b d, tg_S3_4 a b d, tg_S3_5 a b d, tg_S3_6 a b d, tg_S3_7 a b d, tg_S3_8 a b d, fun _ => 0, fun _ => 0, fun _ => 0, fun _ => 0, fun _ => 0, fun _ => 0, tg_S3_15 a b d, tg_S3_16 a b d, tg_S3_17 a b d, tg_S3_18 a b d, tg_S3_19 a b d, tg_S3_20 a b d, tg_S3_21 a b d, tg_S3_22 a b d, tg_S3_23 a b d, z) 1 2 := by
  refine tg_bring (f := 1) (t := 2) 5 (by omega) (by omega) (by omega) ?_
  refine tg_b31S (s := 0) (s' := 0) (by omega) (by omega) (by omega) (by omega) (by omega) rfl rfl ?_
  refine tg_b31S (s := 1) (s' := 0) (by omega) (by omega) (by omega) (by omega) (by omega) rfl rfl ?_
  refine tg_b31S (s := 0) (s' := 1) (by omega) (by omega) (by omega) (by omega) (by omega) rfl rfl ?_
  refine tg_b31S (s := 0) (s' := 0) (by omega) (by omega) (by omega) (by omega) (by omega) rfl rfl ?_
  refine tg_b31E (df := 0) (dt := 0) 2 (by omega) (by omega) (by omega) (by omega) rfl rfl ?_
  refine tg_b126I (m := 1) (w := 0) (og := 1) (tn := 0) (s := 0) (by omega) (by omega) (by omega) (by omega) (by omega) (by omega) (by omega) (by omega) rfl rfl rfl rfl rfl
    (fun Q h => tg_ins1 (r := 2) (w := 0) (q := 1) (o1 := 1) (o2 := 2) (cA := 3) (cB := 4) (vA := 0) (vB := 0) (by omega) (by omega) (by omega) (by omega) (by omega) rfl rfl rfl rfl rfl rfl (by omega) (by omega) rfl rfl rfl rfl h) ?_
  refine tg_b126E 5 (by omega) (by omega) rfl ?_
  refine tg_b193S (s := 0) (s' := 0) (m := 0) (by omega) (by omega) (by omega) (by omega) (by omega) rfl rfl rfl ?_
  refine tg_b193S (s := 1) (s' := 0) (m := 1) (by omega) (by omega) (by omega) (by omega) (by omega) rfl rfl rfl ?_
  refine tg_b193S (s := 0) (s' := 1) (m := 1) (by omega) (by omega) (by omega) (by omega) (by omega) rfl rfl rfl ?_
  refine tg_b193S (s := 0) (s' := 0) (m := 0) (by omega) (by omega) (by omega) (by omega) (by omega) rfl rfl rfl ?_
  refine tg_b193E (cf := 1) (ct := 1) (by omega) (by omega) (by omega) (by omega) rfl rfl ?_
  refine tg_aa (i := 0) 3 (by omega) rfl ?_
  refine tg_aaS (m := 2) (t := 96) (w := 0) (c := 3) (k := 0) (x := 0) (y := 0) (v := a) (by omega) (by omega) rfl (by omega) rfl (by omega) (by omega) rfl rfl rfl rfl rfl rfl (tg_pfS 0 0 a) (fun z => ?_)
  refine tg_aaS (m := 2) (t := 97) (w := 1) (c := 3) (k := 2) (x := a) (y := 0) (v := b) (by omega) (by omega) rfl (by omega) rfl (by omega) (by omega) rfl rfl rfl rfl rfl rfl (tg_pfT a 0 b) (fun z => ?_)
  exact tg_aaE (m := 2) (by omega) (by omega) rfl (H z)
theorem tg_b02 {post : Int32 → St2 → Prop} {a b d : Int32} {z : Nat → Int32} (H : ∀ z, post (nI 1) (3, nI 3, tg_S3_1 a b d, tg_S3_2 a b d, tg_S3_3 a b d, tg_S3_4 a b d, tg_S3_5 a b d, tg_S3_6 a b d, tg_S3_7 a b d, tg_S5_8 a b d, fun _ => 0, fun _ => 0, fun _ => 0, fun _ => 0, fun _ => 0, fun _ => 0, tg_S5_15 a b d, tg_S5_16 a b d, tg_S5_17 a b d, tg_S5_18 a b d, tg_S5_19 a b d, tg_S5_20 a b d, tg_S5_21 a b d, tg_S5_22 a b d, tg_S5_23 a b d, z)) : wpX_bring post (3, nI 3, tg_S3_1 a b d, tg_S3_2 a b d, tg_S3_3 a b d, tg_S3_4 a b d, tg_S3_5 a b d, tg_S3_6 a b d, tg_S3_7 a b d, tg_S4_8 a b d, fun _ => 0, fun _ => 0, fun _ => 0, fun _ => 0, fun _ => 0, fun _ => 0, tg_S4_15 a b d, tg_S4_16 a b d, tg_S4_17 a b d, tg_S4_18 a b d, tg_S4_19 a b d, tg_S4_20 a b d, tg_S4_21 a b d, tg_S4_22 a b d, tg_S4_23 a b d, z) 0 2 := by
  refine tg_bring (f := 0) (t := 2) 5 (by omega) (by omega) (by omega) ?_
  refine tg_b31S (s := 1) (s' := 0) (by omega) (by omega) (by omega) (by omega) (by omega) rfl rfl ?_
  refine tg_b31S (s := 0) (s' := 1) (by omega) (by omega) (by omega) (by omega) (by omega) rfl rfl ?_
  refine tg_b31S (s := 0) (s' := 1) (by omega) (by omega) (by omega) (by omega) (by omega) rfl rfl ?_
  refine tg_b31S (s := 0) (s' := 0) (by omega) (by omega) (by omega) (by omega) (by omega) rfl rfl ?_
  refine tg_b31E (df := 0) (dt := 0) 2 (by omega) (by omega) (by omega) (by omega) rfl rfl ?_
  refine tg_b126I (m := 1) (w := 2) (og := 0) (tn := 0) (s := 0) (by omega) (by omega) (by omega) (by omega) (by omega) (by omega) (by omega) (by omega) rfl rfl rfl rfl rfl
    (fun Q h => tg_ins2 (r := 2) (w := 2) (q := 0) (q' := 1) (o1 := 0) (o2 := 1) (o3 := 2) (cA := 3) (cB := 4) (dA := 3) (dB := 4) (vA := 0) (vB := 0) (wA := a) (wB := 0) (by omega) (by omega) (by omega) (by omega) (by omega) (by omega) (by omega) (by omega) rfl rfl rfl rfl rfl rfl rfl rfl rfl (by omega) (by omega) (by omega) (by omega) rfl rfl rfl rfl rfl rfl rfl rfl h) ?_
  refine tg_b126E 5 (by omega) (by omega) rfl ?_
  refine tg_b193S (s := 1) (s' := 0) (m := 1) (by omega) (by omega) (by omega) (by omega) (by omega) rfl rfl rfl ?_
  refine tg_b193S (s := 0) (s' := 1) (m := 1) (by omega) (by omega) (by omega) (by omega) (by omega) rfl rfl rfl ?_
  refine tg_b193S (s := 0) (s' := 1) (m := 1) (by omega) (by omega) (by omega) (by omega) (by omega) rfl rfl rfl ?_
  refine tg_b193S (s := 0) (s' := 0) (m := 0) (by omega) (by omega) (by omega) (by omega) (by omega) rfl rfl rfl ?_
  refine tg_b193E (cf := 1) (ct := 1) (by omega) (by omega) (by omega) (by omega) rfl rfl ?_
  refine tg_aa (i := 0) 4 (by omega) rfl ?_
  refine tg_aaS (m := 3) (t := 96) (w := 2) (c := 4) (k := 0) (x := 0) (y := 0) (v := d) (by omega) (by omega) rfl (by omega) rfl (by omega) (by omega) rfl rfl rfl rfl rfl rfl (tg_pfS 0 0 d) (fun z => ?_)
  refine tg_aaS (m := 3) (t := 97) (w := 0) (c := 3) (k := 0) (x := 0) (y := d) (v := a) (by omega) (by omega) rfl (by omega) rfl (by omega) (by omega) rfl rfl rfl rfl rfl rfl (tg_pfS 0 d a) (fun z => ?_)
  refine tg_aaS (m := 3) (t := 98) (w := 1) (c := 3) (k := 2) (x := a) (y := d) (v := b) (by omega) (by omega) rfl (by omega) rfl (by omega) (by omega) rfl rfl rfl rfl rfl rfl (tg_pfT a d b) (fun z => ?_)
  exact tg_aaE (m := 3) (by omega) (by omega) rfl (H z)
theorem tg_b20 {post : Int32 → St2 → Prop} {a b d : Int32} {z : Nat → Int32} (H : ∀ z, post (nI 2) (3, nI 3, tg_S3_1 a b d, tg_S3_2 a b d, tg_S3_3 a b d, tg_S3_4 a b d, tg_S3_5 a b d, tg_S3_6 a b d, tg_S3_7 a b d, tg_S6_8 a b d, fun _ => 0, fun _ => 0, fun _ => 0, fun _ => 0, fun _ => 0, fun _ => 0, tg_S6_15 a b d, tg_S6_16 a b d, tg_S6_17 a b d, tg_S6_18 a b d, tg_S6_19 a b d, tg_S6_20 a b d, tg_S6_21 a b d, tg_S6_22 a b d, tg_S6_23 a b d, z)) : wpX_bring post (3, nI 3, tg_S3_1 a b d, tg_S3_2 a b d, tg_S3_3 a b d, tg_S3_4 a b d, tg_S3_5 a b d, tg_S3_6 a b d, tg_S3_7 a b d, tg_S5_8 a b d, fun _ => 0, fun _ => 0, fun _ => 0, fun _ => 0, fun _ => 0, fun _ => 0, tg_S5_15 a b d, tg_S5_16 a b d, tg_S5_17 a b d, tg_S5_18 a b d, tg_S5_19 a b d, tg_S5_20 a b d, tg_S5_21 a b d, tg_S5_22 a b d, tg_S5_23 a b d, z) 2 0 := by
  refine tg_bring (f := 2) (t := 0) 5 (by omega) (by omega) (by omega) ?_
  refine tg_b31S (s := 1) (s' := 1) (by omega) (by omega) (by omega) (by omega) (by omega) rfl rfl ?_
  refine tg_b31S (s := 1) (s' := 0) (by omega) (by omega) (by omega) (by omega) (by omega) rfl rfl ?_
  refine tg_b31S (s := 1) (s' := 0) (by omega) (by omega) (by omega) (by omega) (by omega) rfl rfl ?_
  refine tg_b31S (s := 0) (s' := 0) (by omega) (by omega) (by omega) (by omega) (by omega) rfl rfl ?_
  refine tg_b31E (df := 0) (dt := 0) 4 (by omega) (by omega) (by omega) (by omega) rfl rfl ?_
  refine tg_b126K (m := 3) (w := 2) (og := 0) (tn := 0) (s := 1) (by omega) (by omega) (by omega) (by omega) (by omega) (by omega) (by omega) (by omega) rfl rfl rfl rfl rfl ?_
  refine tg_b126I (m := 3) (w := 0) (og := 1) (tn := 0) (s := 0) (by omega) (by omega) (by omega) (by omega) (by omega) (by omega) (by omega) (by omega) rfl rfl rfl rfl rfl
    (fun Q h => tg_insA (r := 0) (w := 0) (m := 0) (l := 1) (q := 2) (o1 := 1) (o2 := 0) (by omega) (by omega) (by omega) (by omega) (by omega) (by omega) rfl rfl (by omega) rfl rfl rfl rfl h) ?_
  refine tg_b126I (m := 3) (w := 1) (og := 2) (tn := 0) (s := 0) (by omega) (by omega) (by omega) (by omega) (by omega) (by omega) (by omega) (by omega) rfl rfl rfl rfl rfl
    (fun Q h => tg_insA (r := 0) (w := 1) (m := 1) (l := 1) (q := 0) (o1 := 2) (o2 := 1) (by omega) (by omega) (by omega) (by omega) (by omega) (by omega) rfl rfl (by omega) rfl rfl rfl rfl h) ?_
  refine tg_b126E 5 (by omega) (by omega) rfl ?_
  refine tg_b193S (s := 1) (s' := 1) (m := 1) (by omega) (by omega) (by omega) (by omega) (by omega) rfl rfl rfl ?_
  refine tg_b193S (s := 1) (s' := 0) (m := 1) (by omega) (by omega) (by omega) (by omega) (by omega) rfl rfl rfl ?_
  refine tg_b193S (s := 1) (s' := 0) (m := 1) (by omega) (by omega) (by omega) (by omega) (by omega) rfl rfl rfl ?_
  refine tg_b193S (s := 0) (s' := 0) (m := 0) (by omega) (by omega) (by omega) (by omega) (by omega) rfl rfl rfl ?_
  refine tg_b193E (cf := 1) (ct := 1) (by omega) (by omega) (by omega) (by omega) rfl rfl ?_
  refine tg_aa (i := 1) 3 (by omega) rfl ?_
  refine tg_aaS (m := 3) (t := 1) (w := 0) (c := 3) (k := 0) (x := 0) (y := d) (v := a) (by omega) (by omega) rfl (by omega) rfl (by omega) (by omega) rfl rfl rfl rfl rfl rfl (tg_pfS 0 d a) (fun z => ?_)
  refine tg_aaS (m := 3) (t := 2) (w := 1) (c := 3) (k := 2) (x := a) (y := d) (v := b) (by omega) (by omega) rfl (by omega) rfl (by omega) (by omega) rfl rfl rfl rfl rfl rfl (tg_pfT a d b) (fun z => ?_)
  exact tg_aaE (m := 3) (by omega) (by omega) rfl (H z)
theorem tg_y2 {post : St2 → Prop} {a b d : Int32} {z : Nat → Int32} (H : ∀ z, post (3, nI 3, tg_S3_1 a b d, tg_S3_2 a b d, tg_S3_3 a b d, tg_S3_4 a b d, tg_S3_5 a b d, tg_S3_6 a b d, tg_S3_7 a b d, tg_S6_8 a b d, tg_S20_9 a b d, tg_S20_10 a b d, fun _ => 0, fun _ => 0, tg_S20_13 a b d, tg_S20_14 a b d, tg_S6_15 a b d, tg_S20_16 a b d, tg_S20_17 a b d, tg_S20_18 a b d, tg_S20_19 a b d, tg_S20_20 a b d, tg_S20_21 a b d, tg_S20_22 a b d, tg_S20_23 a b d, z)) : wpX_fix post (3, nI 3, tg_S3_1 a b d, tg_S3_2 a b d, tg_S3_3 a b d, tg_S3_4 a b d, tg_S3_5 a b d, tg_S3_6 a b d, tg_S3_7 a b d, tg_S6_8 a b d, fun _ => 0, fun _ => 0, fun _ => 0, fun _ => 0, fun _ => 0, fun _ => 0, tg_S6_15 a b d, tg_S6_16 a b d, tg_S6_17 a b d, tg_S6_18 a b d, tg_S6_19 a b d, tg_S6_20 a b d, tg_S6_21 a b d, tg_S6_22 a b d, tg_S6_23 a b d, z) (nI 0) (nI 2) := by
  refine tg_fixF (r := 0) (w := 2) (m := 2) (l := 2) (by omega) (by omega) (by omega) rfl rfl rfl ?_
  unfold wX_fix_47
  refine tg_rt3 (r := 0) (w := 2) (l := 2) (p18 := nI 0) (p19 := 2) (p20 := nI 3) (p21 := 0) (p22 := nI 4) (p23 := d) (q18 := nI 1) (q19 := tg_O a d b) (q20 := nI 3) (q21 := a) (q22 := nI 4) (q23 := d) (by omega) (by omega) rfl rfl rfl rfl rfl rfl rfl rfl rfl rfl rfl rfl rfl rfl rfl ?_
  exact tg_f56a (r := 0) (w := 2) (c := 4) (k := 0) (og := 0) (f := 0) (dn := 0) (x := 0) (y := 0) (v := d) (by omega) (by omega) (by omega) rfl rfl rfl rfl rfl (tg_pfS 0 0 d) (by omega) (by omega) rfl rfl rfl H
theorem tg_y0 {post : St2 → Prop} {a b d : Int32} {z : Nat → Int32} (H : ∀ z, post (3, nI 3, tg_S3_1 a b d, tg_S3_2 a b d, tg_S3_3 a b d, tg_S3_4 a b d, tg_S3_5 a b d, tg_S3_6 a b d, tg_S3_7 a b d, tg_S6_8 a b d, tg_S7_9 a b d, tg_S7_10 a b d, fun _ => 0, fun _ => 0, tg_S7_13 a b d, tg_S7_14 a b d, tg_S6_15 a b d, tg_S7_16 a b d, tg_S7_17 a b d, tg_S7_18 a b d, tg_S7_19 a b d, tg_S7_20 a b d, tg_S7_21 a b d, tg_S7_22 a b d, tg_S7_23 a b d, z)) : wpX_fix post (3, nI 3, tg_S3_1 a b d, tg_S3_2 a b d, tg_S3_3 a b d, tg_S3_4 a b d, tg_S3_5 a b d, tg_S3_6 a b d, tg_S3_7 a b d, tg_S6_8 a b d, tg_S20_9 a b d, tg_S20_10 a b d, fun _ => 0, fun _ => 0, tg_S20_13 a b d, tg_S20_14 a b d, tg_S6_15 a b d, tg_S20_16 a b d, tg_S20_17 a b d, tg_S20_18 a b d, tg_S20_19 a b d, tg_S20_20 a b d, tg_S20_21 a b d, tg_S20_22 a b d, tg_S20_23 a b d, z) (nI 0) (nI 0) := by
  refine tg_fixF (r := 0) (w := 0) (m := 1) (l := 1) (by omega) (by omega) (by omega) rfl rfl rfl ?_
  unfold wX_fix_47
  refine tg_rt2 (r := 0) (w := 0) (l := 1) (p18 := nI 1) (p19 := tg_O a d b) (p20 := nI 3) (p21 := a) (p22 := nI 4) (p23 := d) (by omega) (by omega) rfl rfl rfl rfl pk_us rfl rfl rfl rfl ?_
  exact tg_f56a (r := 0) (w := 0) (c := 3) (k := 0) (og := 1) (f := 0) (dn := 1) (x := 0) (y := d) (v := a) (by omega) (by omega) (by omega) rfl rfl rfl rfl rfl (tg_pfS 0 d a) (by omega) (by omega) rfl rfl rfl H
theorem tg_y1 {post : St2 → Prop} {a b d : Int32} {z : Nat → Int32} (H : ∀ z, post (3, nI 3, tg_S3_1 a b d, tg_S3_2 a b d, tg_S3_3 a b d, tg_S3_4 a b d, tg_S3_5 a b d, tg_S3_6 a b d, tg_S3_7 a b d, tg_S6_8 a b d, tg_S8_9 a b d, tg_S8_10 a b d, fun _ => 0, fun _ => 0, tg_S8_13 a b d, tg_S8_14 a b d, tg_S6_15 a b d, tg_S8_16 a b d, tg_S8_17 a b d, tg_S7_18 a b d, tg_S7_19 a b d, tg_S7_20 a b d, tg_S7_21 a b d, tg_S7_22 a b d, tg_S7_23 a b d, z)) : wpX_fix post (3, nI 3, tg_S3_1 a b d, tg_S3_2 a b d, tg_S3_3 a b d, tg_S3_4 a b d, tg_S3_5 a b d, tg_S3_6 a b d, tg_S3_7 a b d, tg_S6_8 a b d, tg_S7_9 a b d, tg_S7_10 a b d, fun _ => 0, fun _ => 0, tg_S7_13 a b d, tg_S7_14 a b d, tg_S6_15 a b d, tg_S7_16 a b d, tg_S7_17 a b d, tg_S7_18 a b d, tg_S7_19 a b d, tg_S7_20 a b d, tg_S7_21 a b d, tg_S7_22 a b d, tg_S7_23 a b d, z) (nI 0) (nI 1) := by
  refine tg_fixF (r := 0) (w := 1) (m := 0) (l := 0) (by omega) (by omega) (by omega) rfl rfl rfl ?_
  unfold wX_fix_47
  refine tg_rt1 (r := 0) (w := 1) (l := 0) (by omega) (by omega) rfl rfl rfl ?_
  exact tg_f56a (r := 0) (w := 1) (c := 3) (k := 2) (og := 2) (f := 0) (dn := 2) (x := a) (y := d) (v := b) (by omega) (by omega) (by omega) rfl rfl rfl rfl rfl (tg_pfT a d b) (by omega) (by omega) rfl rfl rfl H
theorem tg_c2 {post : Int32 → St2 → Prop} {a b d : Int32} {z : Nat → Int32} (H : ∀ z, post (nI 2) (3, nI 3, tg_S3_1 a b d, tg_S3_2 a b d, tg_S3_3 a b d, tg_S3_4 a b d, tg_S3_5 a b d, tg_S3_6 a b d, tg_S3_7 a b d, tg_S6_8 a b d, tg_S7_9 a b d, tg_S7_10 a b d, fun _ => 0, fun _ => 0, tg_S7_13 a b d, tg_S7_14 a b d, tg_S6_15 a b d, tg_S7_16 a b d, tg_S7_17 a b d, tg_S7_18 a b d, tg_S7_19 a b d, tg_S7_20 a b d, tg_S7_21 a b d, tg_S7_22 a b d, tg_S7_23 a b d, z)) : wpX_commit post (3, nI 3, tg_S3_1 a b d, tg_S3_2 a b d, tg_S3_3 a b d, tg_S3_4 a b d, tg_S3_5 a b d, tg_S3_6 a b d, tg_S3_7 a b d, tg_S6_8 a b d, fun _ => 0, fun _ => 0, fun _ => 0, fun _ => 0, fun _ => 0, fun _ => 0, tg_S6_15 a b d, tg_S6_16 a b d, tg_S6_17 a b d, tg_S6_18 a b d, tg_S6_19 a b d, tg_S6_20 a b d, tg_S6_21 a b d, tg_S6_22 a b d, tg_S6_23 a b d, z) 2 := by
  refine tg_commit (k := 2) 3 ?_
  refine tg_cS (m := 2) (w := 2) (by omega) (by omega) (by omega) rfl rfl (fun Q h => tg_y2 h) (fun z => ?_)
  refine tg_cS (m := 1) (w := 0) (by omega) (by omega) (by omega) rfl rfl (fun Q h => tg_y0 h) (fun z => ?_)
  exact tg_cE (by omega) (H z)
theorem tg_c5 {post : Int32 → St2 → Prop} {a b d : Int32} {z : Nat → Int32} (H : ∀ z, post (nI 1) (3, nI 3, tg_S3_1 a b d, tg_S3_2 a b d, tg_S3_3 a b d, tg_S3_4 a b d, tg_S3_5 a b d, tg_S3_6 a b d, tg_S3_7 a b d, tg_S6_8 a b d, tg_S8_9 a b d, tg_S8_10 a b d, fun _ => 0, fun _ => 0, tg_S8_13 a b d, tg_S8_14 a b d, tg_S6_15 a b d, tg_S8_16 a b d, tg_S8_17 a b d, tg_S7_18 a b d, tg_S7_19 a b d, tg_S7_20 a b d, tg_S7_21 a b d, tg_S7_22 a b d, tg_S7_23 a b d, z)) : wpX_commit post (3, nI 3, tg_S3_1 a b d, tg_S3_2 a b d, tg_S3_3 a b d, tg_S3_4 a b d, tg_S3_5 a b d, tg_S3_6 a b d, tg_S3_7 a b d, tg_S6_8 a b d, tg_S7_9 a b d, tg_S7_10 a b d, fun _ => 0, fun _ => 0, tg_S7_13 a b d, tg_S7_14 a b d, tg_S6_15 a b d, tg_S7_16 a b d, tg_S7_17 a b d, tg_S7_18 a b d, tg_S7_19 a b d, tg_S7_20 a b d, tg_S7_21 a b d, tg_S7_22 a b d, tg_S7_23 a b d, z) 5 := by
  refine tg_commit (k := 5) 2 ?_
  refine tg_cS (m := 0) (w := 1) (by omega) (by omega) (by omega) rfl rfl (fun Q h => tg_y1 h) (fun z => ?_)
  exact tg_cZ (by omega) (by omega) rfl (H z)
theorem tg_x2 {post : St2 → Prop} {a b d : Int32} {z : Nat → Int32} (H : ∀ z, post (3, nI 3, tg_S3_1 a b d, tg_S3_2 a b d, tg_S3_3 a b d, tg_S3_4 a b d, tg_S3_5 a b d, tg_S3_6 a b d, tg_S3_7 a b d, tg_S6_8 a b d, tg_S9_9 a b d, tg_S9_10 a b d, fun _ => 0, fun _ => 0, tg_S9_13 a b d, tg_S9_14 a b d, tg_S9_15 a b d, tg_S8_16 a b d, tg_S9_17 a b d, tg_S7_18 a b d, tg_S7_19 a b d, tg_S7_20 a b d, tg_S7_21 a b d, tg_S7_22 a b d, tg_S7_23 a b d, z)) : wpX_fix post (3, nI 3, tg_S3_1 a b d, tg_S3_2 a b d, tg_S3_3 a b d, tg_S3_4 a b d, tg_S3_5 a b d, tg_S3_6 a b d, tg_S3_7 a b d, tg_S6_8 a b d, tg_S8_9 a b d, tg_S8_10 a b d, fun _ => 0, fun _ => 0, tg_S8_13 a b d, tg_S8_14 a b d, tg_S6_15 a b d, tg_S8_16 a b d, tg_S8_17 a b d, tg_S7_18 a b d, tg_S7_19 a b d, tg_S7_20 a b d, tg_S7_21 a b d, tg_S7_22 a b d, tg_S7_23 a b d, z) (nI 1) (nI 2) := by
  refine tg_fixN (r := 1) (w := 2) (q := 0) (m := 0) (by omega) (by omega) rfl rfl (by omega) (by omega) (by omega) (tg_f35u (r := 1) (w := 2) (cA := 3) (cB := 4) (vA := 0) (vB := 0) (by omega) (by omega) (by omega) rfl rfl rfl rfl rfl ?_)
  unfold wX_fix_47
  refine tg_rtA1 (r := 1) (w := 2) (q := 0) (by omega) rfl rfl (by omega) (by omega) (by omega) ?_
  exact tg_f56b (r := 1) (w := 2) (c := 4) (k := 0) (og := 0) (f := 0) (dn := 0) (x := 0) (y := 0) (v := d) (by omega) (by omega) (by omega) rfl rfl rfl rfl rfl (tg_pfS 0 0 d) (by omega) (by omega) rfl rfl rfl H
theorem tg_x0 {post : St2 → Prop} {a b d : Int32} {z : Nat → Int32} (H : ∀ z, post (3, nI 3, tg_S3_1 a b d, tg_S3_2 a b d, tg_S3_3 a b d, tg_S3_4 a b d, tg_S3_5 a b d, tg_S3_6 a b d, tg_S3_7 a b d, tg_S6_8 a b d, tg_S10_9 a b d, tg_S10_10 a b d, fun _ => 0, fun _ => 0, tg_S10_13 a b d, tg_S10_14 a b d, tg_S10_15 a b d, tg_S10_16 a b d, tg_S9_17 a b d, tg_S7_18 a b d, tg_S7_19 a b d, tg_S7_20 a b d, tg_S7_21 a b d, tg_S7_22 a b d, tg_S7_23 a b d, z)) : wpX_fix post (3, nI 3, tg_S3_1 a b d, tg_S3_2 a b d, tg_S3_3 a b d, tg_S3_4 a b d, tg_S3_5 a b d, tg_S3_6 a b d, tg_S3_7 a b d, tg_S6_8 a b d, tg_S9_9 a b d, tg_S9_10 a b d, fun _ => 0, fun _ => 0, tg_S9_13 a b d, tg_S9_14 a b d, tg_S9_15 a b d, tg_S8_16 a b d, tg_S9_17 a b d, tg_S7_18 a b d, tg_S7_19 a b d, tg_S7_20 a b d, tg_S7_21 a b d, tg_S7_22 a b d, tg_S7_23 a b d, z) (nI 1) (nI 0) := by
  refine tg_fixZ (r := 1) (w := 0) (m := 0) (by omega) (by omega) rfl rfl rfl (tg_f35 (r := 1) (w := 0) (by omega) rfl ?_)
  unfold wX_fix_47
  refine tg_rtZ1 (r := 1) (w := 0) (by omega) rfl rfl rfl ?_
  exact tg_f56b (r := 1) (w := 0) (c := 3) (k := 0) (og := 1) (f := 0) (dn := 1) (x := 0) (y := d) (v := a) (by omega) (by omega) (by omega) rfl rfl rfl rfl rfl (tg_pfS 0 d a) (by omega) (by omega) rfl rfl rfl H
theorem tg_x1 {post : St2 → Prop} {a b d : Int32} {z : Nat → Int32} (H : ∀ z, post (3, nI 3, tg_S3_1 a b d, tg_S3_2 a b d, tg_S3_3 a b d, tg_S3_4 a b d, tg_S3_5 a b d, tg_S3_6 a b d, tg_S3_7 a b d, tg_S6_8 a b d, tg_S11_9 a b d, tg_S11_10 a b d, fun _ => 0, fun _ => 0, tg_S11_13 a b d, tg_S11_14 a b d, tg_S11_15 a b d, tg_S10_16 a b d, tg_S9_17 a b d, tg_S7_18 a b d, tg_S7_19 a b d, tg_S7_20 a b d, tg_S7_21 a b d, tg_S7_22 a b d, tg_S7_23 a b d, z)) : wpX_fix post (3, nI 3, tg_S3_1 a b d, tg_S3_2 a b d, tg_S3_3 a b d, tg_S3_4 a b d, tg_S3_5 a b d, tg_S3_6 a b d, tg_S3_7 a b d, tg_S6_8 a b d, tg_S10_9 a b d, tg_S10_10 a b d, fun _ => 0, fun _ => 0, tg_S10_13 a b d, tg_S10_14 a b d, tg_S10_15 a b d, tg_S10_16 a b d, tg_S9_17 a b d, tg_S7_18 a b d, tg_S7_19 a b d, tg_S7_20 a b d, tg_S7_21 a b d, tg_S7_22 a b d, tg_S7_23 a b d, z) (nI 1) (nI 1) := by
  refine tg_fix0 (r := 1) (w := 1) (by omega) rfl (tg_f35 (r := 1) (w := 1) (by omega) rfl ?_)
  unfold wX_fix_47
  refine tg_rtA0 (r := 1) (w := 1) (by omega) rfl ?_
  exact tg_f56b (r := 1) (w := 1) (c := 3) (k := 2) (og := 2) (f := 0) (dn := 2) (x := a) (y := d) (v := b) (by omega) (by omega) (by omega) rfl rfl rfl rfl rfl (tg_pfT a d b) (by omega) (by omega) rfl rfl rfl H
theorem tg_t01 {post : St2 → Prop} {a b d : Int32} {z : Nat → Int32} (H : ∀ z, post (3, nI 3, tg_S3_1 a b d, tg_S3_2 a b d, tg_S3_3 a b d, tg_S3_4 a b d, tg_S3_5 a b d, tg_S3_6 a b d, tg_S3_7 a b d, tg_S12_8 a b d, tg_S11_9 a b d, tg_S11_10 a b d, fun _ => 0, fun _ => 0, tg_S11_13 a b d, tg_S11_14 a b d, tg_S11_15 a b d, tg_S10_16 a b d, tg_S9_17 a b d, tg_S7_18 a b d, tg_S7_19 a b d, tg_S7_20 a b d, tg_S7_21 a b d, tg_S7_22 a b d, tg_S7_23 a b d, z)) : wpX_transferLog post (3, nI 3, tg_S3_1 a b d, tg_S3_2 a b d, tg_S3_3 a b d, tg_S3_4 a b d, tg_S3_5 a b d, tg_S3_6 a b d, tg_S3_7 a b d, tg_S6_8 a b d, tg_S8_9 a b d, tg_S8_10 a b d, fun _ => 0, fun _ => 0, tg_S8_13 a b d, tg_S8_14 a b d, tg_S6_15 a b d, tg_S8_16 a b d, tg_S8_17 a b d, tg_S7_18 a b d, tg_S7_19 a b d, tg_S7_20 a b d, tg_S7_21 a b d, tg_S7_22 a b d, tg_S7_23 a b d, z) (nI 0) (nI 1) := by
  refine tg_tl (df := 3) (dt := 0) 4 (by omega) (by omega) rfl rfl ?_
  refine tg_t15S (w := 2) (by omega) (by omega) (by omega) rfl (fun Q h => tg_x2 h) (fun z => ?_)
  refine tg_t15S (w := 0) (by omega) (by omega) (by omega) rfl (fun Q h => tg_x0 h) (fun z => ?_)
  refine tg_t15S (w := 1) (by omega) (by omega) (by omega) rfl (fun Q h => tg_x1 h) (fun z => ?_)
  refine tg_t15E 5 (by omega) ?_
  refine tg_t47S (s := 1) (s' := 0) (m := 1) (by omega) (by omega) (by omega) (by omega) rfl rfl rfl ?_
  refine tg_t47S (s := 1) (s' := 1) (m := 1) (by omega) (by omega) (by omega) (by omega) rfl rfl rfl ?_
  refine tg_t47S (s := 1) (s' := 0) (m := 1) (by omega) (by omega) (by omega) (by omega) rfl rfl rfl ?_
  refine tg_t47S (s := 0) (s' := 0) (m := 0) (by omega) (by omega) (by omega) (by omega) rfl rfl rfl ?_
  exact tg_t47E (H z)
theorem tg_b01 {post : Int32 → St2 → Prop} {a b d : Int32} {z : Nat → Int32} (H : ∀ z, post (nI 2) (3, nI 3, tg_S3_1 a b d, tg_S3_2 a b d, tg_S3_3 a b d, tg_S3_4 a b d, tg_S3_5 a b d, tg_S3_6 a b d, tg_S3_7 a b d, tg_S13_8 a b d, tg_S11_9 a b d, tg_S11_10 a b d, fun _ => 0, fun _ => 0, tg_S11_13 a b d, tg_S11_14 a b d, tg_S11_15 a b d, tg_S10_16 a b d, tg_S13_17 a b d, tg_S7_18 a b d, tg_S7_19 a b d, tg_S7_20 a b d, tg_S7_21 a b d, tg_S7_22 a b d, tg_S7_23 a b d, z)) : wpX_bring post (3, nI 3, tg_S3_1 a b d, tg_S3_2 a b d, tg_S3_3 a b d, tg_S3_4 a b d, tg_S3_5 a b d, tg_S3_6 a b d, tg_S3_7 a b d, tg_S6_8 a b d, tg_S8_9 a b d, tg_S8_10 a b d, fun _ => 0, fun _ => 0, tg_S8_13 a b d, tg_S8_14 a b d, tg_S6_15 a b d, tg_S8_16 a b d, tg_S8_17 a b d, tg_S7_18 a b d, tg_S7_19 a b d, tg_S7_20 a b d, tg_S7_21 a b d, tg_S7_22 a b d, tg_S7_23 a b d, z) 0 1 := by
  refine tg_bring (f := 0) (t := 1) 5 (by omega) (by omega) (by omega) ?_
  refine tg_b31S (s := 1) (s' := 0) (by omega) (by omega) (by omega) (by omega) (by omega) rfl rfl ?_
  refine tg_b31S (s := 1) (s' := 1) (by omega) (by omega) (by omega) (by omega) (by omega) rfl rfl ?_
  refine tg_b31S (s := 1) (s' := 0) (by omega) (by omega) (by omega) (by omega) (by omega) rfl rfl ?_
  refine tg_b31S (s := 0) (s' := 0) (by omega) (by omega) (by omega) (by omega) (by omega) rfl rfl ?_
  refine tg_b31L (df := 3) (dt := 0) (hd := 0) 1 (by omega) (by omega) (by omega) (by omega) (by omega) rfl rfl rfl (fun Q h => tg_t01 h) (fun z => ?_)
  refine tg_b126E (m := 0) 5 (by omega) (by omega) rfl ?_
  refine tg_b193S (s := 1) (s' := 1) (m := 1) (by omega) (by omega) (by omega) (by omega) (by omega) rfl rfl rfl ?_
  refine tg_b193S (s := 1) (s' := 1) (m := 1) (by omega) (by omega) (by omega) (by omega) (by omega) rfl rfl rfl ?_
  refine tg_b193S (s := 1) (s' := 1) (m := 1) (by omega) (by omega) (by omega) (by omega) (by omega) rfl rfl rfl ?_
  refine tg_b193S (s := 0) (s' := 0) (m := 0) (by omega) (by omega) (by omega) (by omega) (by omega) rfl rfl rfl ?_
  refine tg_b193E (cf := 1) (ct := 1) (by omega) (by omega) (by omega) (by omega) rfl rfl ?_
  refine tg_aa (i := 0) 1 (by omega) rfl ?_
  exact tg_aaE (m := 0) (by omega) (by omega) rfl (H z)
end
section
/-! the reads of symbolic values; then the law -/
theorem tg_r3p (a b d : Int32) : tg_S3_15 a b d (2 * 8 + 3) = tg_P 0 b := by
  simp [tg_S3_15, tg_S2_15, tg_S1_15, upd, tg_put]
theorem tg_r3q (a b d : Int32) : tg_S3_15 a b d (2 * 8 + 4) = tg_Q 0 0 b := by
  simp [tg_S3_15, tg_S2_15, tg_S1_15, upd, tg_put]
theorem tg_r3o (a b d : Int32) : tg_S3_19 a b d (2 * 48 + 0) = tg_O 0 0 b := by
  simp [tg_S3_19, tg_S2_19, tg_S1_19, upd, tg_put]
theorem tg_r4p (a b d : Int32) : tg_S4_15 a b d (2 * 8 + 3) = tg_P a b := by
  simp [tg_S4_15, tg_S3_15, tg_S2_15, tg_S1_15, upd, tg_put]
theorem tg_r4q (a b d : Int32) : tg_S4_15 a b d (2 * 8 + 4) = tg_Q a 0 b := by
  simp [tg_S4_15, tg_S3_15, tg_S2_15, tg_S1_15, upd, tg_put]
theorem tg_r4o (a b d : Int32) : tg_S4_19 a b d (2 * 48 + 1) = tg_O a 0 b := by
  simp [tg_S4_19, tg_S3_19, tg_S2_19, tg_S1_19, upd, tg_put]
theorem tg_r5p (a b d : Int32) : tg_S5_15 a b d (2 * 8 + 3) = tg_P a b := by
  simp [tg_S5_15, tg_S4_15, tg_S3_15, tg_S2_15, tg_S1_15, upd, tg_put]
theorem tg_r5q (a b d : Int32) : tg_S5_15 a b d (2 * 8 + 4) = tg_Q a d b := by
  simp [tg_S5_15, tg_S4_15, tg_S3_15, tg_S2_15, tg_S1_15, upd, tg_put]
theorem tg_r5o (a b d : Int32) : tg_S5_19 a b d (2 * 48 + 2) = tg_O a d b := by
  simp [tg_S5_19, tg_S4_19, tg_S3_19, tg_S2_19, tg_S1_19, upd, tg_put]
theorem tg_r7o (a b d : Int32) : tg_S7_19 a b d (0 * 48 + 0) = tg_O a d b := by
  simp [tg_S7_19, tg_S20_19, tg_S6_19, tg_S5_19, tg_S4_19, tg_S3_19, tg_S2_19, tg_S1_19, upd, tg_put]
theorem tg_rDp (a b d : Int32) : tg_S11_15 a b d (1 * 8 + 3) = tg_P a b := by
  simp [tg_S11_15, tg_S10_15, tg_S9_15, tg_S6_15, tg_S5_15, tg_S4_15, tg_S3_15, tg_S2_15, tg_S1_15, tg_S9_14, tg_S8_14, tg_S7_14, tg_S20_14, tg_S10_14, tg_S11_14, upd, tg_put]
theorem tg_rDq (a b d : Int32) : tg_S11_15 a b d (1 * 8 + 4) = tg_Q a d b := by
  simp [tg_S11_15, tg_S10_15, tg_S9_15, tg_S6_15, tg_S5_15, tg_S4_15, tg_S3_15, tg_S2_15, tg_S1_15, tg_S9_14, tg_S8_14, tg_S7_14, tg_S20_14, tg_S10_14, tg_S11_14, upd, tg_put]
theorem tg_rDr (a b d : Int32) : tg_S11_15 a b d (2 * 8 + 3) = tg_P a b := by
  simp [tg_S11_15, tg_S10_15, tg_S9_15, tg_S6_15, tg_S5_15, tg_S4_15, tg_S3_15, tg_S2_15, tg_S1_15, tg_S9_14, tg_S8_14, tg_S7_14, tg_S20_14, tg_S10_14, tg_S11_14, upd, tg_put]
theorem tg_rDs (a b d : Int32) : tg_S11_15 a b d (2 * 8 + 4) = tg_Q a d b := by
  simp [tg_S11_15, tg_S10_15, tg_S9_15, tg_S6_15, tg_S5_15, tg_S4_15, tg_S3_15, tg_S2_15, tg_S1_15, tg_S9_14, tg_S8_14, tg_S7_14, tg_S20_14, tg_S10_14, tg_S11_14, upd, tg_put]
theorem tg_rDt (a b d : Int32) : tg_S11_14 a b d (1 * 8 + 3) = tg_P a b := by
  simp [tg_S11_14, tg_S10_14, tg_S9_14, tg_S8_14, tg_S7_14, tg_S20_14, upd, tg_put]
theorem tg_rDu (a b d : Int32) : tg_S11_14 a b d (1 * 8 + 4) = tg_Q a d b := by
  simp [tg_S11_14, tg_S10_14, tg_S9_14, tg_S8_14, tg_S7_14, tg_S20_14, upd, tg_put]
end
section
/-! the law -/
theorem tg_law (a b d : Int32) {post : Int32 → St0 → Prop} (H : post 1 ()) : wpL_lawOf post 25 1786 () a b d := by
  unfold wpL_lawOf
  refine ⟨by omega, by omega, 24, 1760, by omega, by omega, tg_init ?_⟩
  dsimp only
  refine tg_w1 (b := b) (d := d) (fun z => ?_)
  dsimp only
  refine tg_w2 (d := d) (fun z => ?_)
  dsimp only
  refine tg_w3 (fun z => ?_)
  dsimp only
  refine tg_taken (r := 2) (by omega) (tg_r3p a b d) (tg_r3q a b d) (br_f (by decide) ?_)
  refine tg_stT (r := 2) (w := 1) (m := 3) (og := 2) (tn := 0) (s := 1) (f := 0) 1 (by omega) (by omega) (by omega) (by omega) (by omega) (by omega) (by omega) rfl rfl rfl rfl (tg_s72H (m := 1) (by omega) (by omega) (by omega) rfl rfl (tg_r3o a b d) ?_)
  refine tg_outcome (br_t rfl ?_)
  refine tg_b12 (fun z => ?_)
  dsimp only
  refine br_t rfl ?_
  refine tg_taken (r := 2) (by omega) (tg_r4p a b d) (tg_r4q a b d) (br_f (by decide) ?_)
  refine tg_stT (r := 2) (w := 1) (m := 3) (og := 2) (tn := 0) (s := 1) (f := 0) 2 (by omega) (by omega) (by omega) (by omega) (by omega) (by omega) (by omega) rfl rfl rfl rfl (tg_s72S (q := 0) (m := 2) (by omega) (by omega) (by omega) (by omega) (by omega) (by omega) rfl rfl (tg_s72H (m := 2) (by omega) (by omega) (by omega) rfl rfl (tg_r4o a b d) ?_))
  refine tg_outcome (br_t rfl ?_)
  refine tg_b02 (fun z => ?_)
  dsimp only
  refine br_t rfl ?_
  refine tg_taken (r := 2) (by omega) (tg_r5p a b d) (tg_r5q a b d) (br_f (by decide) ?_)
  refine tg_stT (r := 2) (w := 1) (m := 3) (og := 2) (tn := 0) (s := 1) (f := 0) 3 (by omega) (by omega) (by omega) (by omega) (by omega) (by omega) (by omega) rfl rfl rfl rfl (tg_s72S (q := 2) (m := 3) (by omega) (by omega) (by omega) (by omega) (by omega) (by omega) rfl rfl (tg_s72S (q := 0) (m := 3) (by omega) (by omega) (by omega) (by omega) (by omega) (by omega) rfl rfl (tg_s72H (m := 3) (by omega) (by omega) (by omega) rfl rfl (tg_r5o a b d) ?_)))
  refine tg_outcome (br_t rfl ?_)
  refine tg_stT (r := 2) (w := 0) (m := 3) (og := 1) (tn := 0) (s := 1) (f := 0) 2 (by omega) (by omega) (by omega) (by omega) (by omega) (by omega) (by omega) rfl rfl rfl rfl (tg_s72S (q := 2) (m := 3) (by omega) (by omega) (by omega) (by omega) (by omega) (by omega) rfl rfl (tg_s72H (m := 3) (by omega) (by omega) (by omega) rfl rfl (o := 2) rfl ?_))
  refine br_t rfl ?_
  refine tg_stable (r := 2) (c := 3) (x := 0) (by omega) (by omega) rfl (br_t rfl ?_)
  refine tg_stU (r := 1) (w := 2) (m := 3) (og := 0) (tn := 0) (s := 0) (by omega) (by omega) (by omega) (by omega) (by omega) (by omega) rfl rfl rfl (br_t rfl ?_)
  refine tg_b20 (fun z => ?_)
  dsimp only
  refine br_t rfl ?_
  refine tg_c2 (fun z => ?_)
  dsimp only
  refine br_t rfl ?_
  refine tg_stable (r := 0) (c := 3) (x := a) (by omega) (by omega) rfl (br_t rfl ?_)
  refine tg_stable (r := 0) (c := 4) (x := d) (by omega) (by omega) rfl (br_t rfl ?_)
  refine tg_stC (r := 0) (w := 0) (m := 3) (og := 1) (tn := 0) (s := 1) (f := 1) (by omega) (by omega) (by omega) (by omega) (by omega) (by omega) (by omega) (by omega) rfl rfl rfl rfl (br_t rfl ?_)
  refine tg_stT (r := 0) (w := 1) (m := 3) (og := 2) (tn := 0) (s := 1) (f := 0) 1 (by omega) (by omega) (by omega) (by omega) (by omega) (by omega) (by omega) rfl rfl rfl rfl (tg_s72H (m := 1) (by omega) (by omega) (by omega) rfl rfl (tg_r7o a b d) ?_)
  refine tg_outcome (br_t rfl ?_)
  refine tg_c5 (fun z => ?_)
  dsimp only
  refine br_t rfl ?_
  refine tg_b01 (fun z => ?_)
  dsimp only
  refine br_t rfl ?_
  refine tg_committed (r := 1) (x := nI 3) (by omega) rfl (br_t rfl ?_)
  refine tg_taken (r := 1) (by omega) (tg_rDp a b d) (tg_rDq a b d) (br_f (by decide) ?_)
  refine tg_stable (r := 1) (c := 3) (by omega) (by omega) (tg_rDt a b d) ?_
  refine tg_cell (r := 2) (c := 3) (by omega) (by omega) (tg_rDr a b d) (br_t rfl ?_)
  refine tg_stable (r := 1) (c := 4) (by omega) (by omega) (tg_rDu a b d) ?_
  refine tg_cell (r := 2) (c := 4) (by omega) (by omega) (tg_rDs a b d) (br_t rfl ?_)
  refine tg_committed (r := 2) (x := 0) (by omega) rfl (br_t rfl ?_)
  refine tg_stC (r := 1) (w := 1) (m := 3) (og := 2) (tn := 0) (s := 1) (f := 1) (by omega) (by omega) (by omega) (by omega) (by omega) (by omega) (by omega) (by omega) rfl rfl rfl rfl (br_t rfl ?_)
  exact tg_known (r := 1) (s0 := 1) (s1 := 1) (s2 := 1) (s3 := 0) (by omega) rfl rfl rfl rfl (br_t rfl H)
theorem tg_at {post : Int32 → Prop} {L : Nat} {xs : Nat → Int32} {u : St0} (hL : L ≤ 3) (i : Nat) (hi : i < 3) (H : ∀ x, post x) : wpL_cellAt post L xs u (nI i) :=
  pk_le (x := Int32.ofNat L) L i (fun _ => H 0) (fun z => ⟨pk_in i L z, H _⟩)
theorem i_vc (xs : Nat → Int32) (L : Nat) (hL : L ≤ 3) : wpL_law (fun r => r = 1) L xs := by
  unfold wpL_law
  exact tg_at hL 0 (by omega) (fun a => tg_at hL 1 (by omega) (fun b => tg_at hL 2 (by omega) (fun d => ⟨25, 1786, by omega, by omega, tg_law a b d rfl⟩)))
end
