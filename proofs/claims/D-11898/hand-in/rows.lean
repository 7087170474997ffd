section
/-! counting loops, arrays as lists, copies and shifts -/
theorem cs_lp {α : Type} (W : Nat → Nat → α → Prop) (X : Nat → α) (e : Nat) (s : α) (h0 : s = X 0) (hx : ∀ n, W (n + 1) e (X e))
    (hs : ∀ n i, i < e → W n (i + 1) (X (i + 1)) → W (n + 1) i (X i)) : ∃ n, W n 0 s :=
  pk_loop W (fun i s => s = X i) e 0 s (Nat.zero_le e) h0 (fun n s h => by rw [h]; exact hx n) (fun n i s hi h hw => by rw [h]; exact hs n i hi (hw _ rfl))
theorem cs_lu (W : Nat → Nat → Prop) (e : Nat) (hx : ∀ n, W (n + 1) e) (hs : ∀ n i, i < e → W n (i + 1) → W (n + 1) i) : ∃ n, W n 0 :=
  cs_lp (fun n i (_ : Unit) => W n i) (fun _ => ()) e () rfl hx hs
/-- a list as an int array -/
def cs_v (l : List Nat) : Nat → Int32 := fun j => nI (l.getD j 0)
/-- the numbers of spoiled frames: 0 stands for -1, n + 1 for n -/
def cs_w (l : List Nat) : Nat → Int32 := fun j => nI (l.getD j 1) - 1
/-- one place of four is used -/
def cs_o (t n : Nat) : Nat → Int32 := fun j => if j = t then nI n else 0
/-- part of an array moved down by d -/
def cs_sh (a : Nat → Int32) (p d n : Nat) : Nat → Int32 := fun j => if p ≤ j ∧ j < p + n then a (j + d) else a j
theorem cs_gs {l : List Nat} {k v j d : Nat} (h : k < l.length) : (l.set k v).getD j d = if j = k then v else l.getD j d := by
  rw [List.getD_eq_getElem?_getD, List.getElem?_set, List.getD_eq_getElem?_getD]
  by_cases e : j = k
  · subst e
    simp [h]
  · rw [if_neg e, if_neg (fun z => e z.symm)]
theorem cs_vs {l : List Nat} {k v : Nat} (h : k < l.length) : upd (cs_v l) k (nI v) = cs_v (l.set k v) := by
  funext j
  show (if j = k then nI v else nI (l.getD j 0)) = nI ((l.set k v).getD j 0)
  rw [cs_gs h]
  split <;> rfl
theorem cs_ws {l : List Nat} {k n : Nat} (h : k < l.length) : upd (cs_w l) k (nI n) = cs_w (l.set k (n + 1)) := by
  funext j
  show (if j = k then nI n else nI (l.getD j 1) - 1) = nI ((l.set k (n + 1)).getD j 1) - 1
  rw [cs_gs h]
  split
  · exact (nI_pred n).symm
  · rfl
theorem cs_wm {l : List Nat} {k : Nat} (h : k < l.length) : upd (cs_w l) k (-1) = cs_w (l.set k 0) := by
  funext j
  show (if j = k then (-1 : Int32) else nI (l.getD j 1) - 1) = nI ((l.set k 0).getD j 1) - 1
  rw [cs_gs h]
  split
  · decide
  · rfl
theorem cs_os {t n m : Nat} : upd (cs_o t n) t (nI m) = cs_o t m := by
  funext j
  show (if j = t then nI m else if j = t then nI n else 0) = if j = t then nI m else 0
  by_cases e : j = t
  · rw [if_pos e, if_pos e]
  · rw [if_neg e, if_neg e, if_neg e]
theorem cs_oe {t n : Nat} : cs_o t n t = nI n := if_pos rfl
theorem cs_on {t n j : Nat} (h : j ≠ t) : cs_o t n j = 0 := if_neg h
theorem cs_u0 (k : Nat) : upd (fun _ => 0) k 0 = fun _ => 0 := by
  funext j
  show (if j = k then (0 : Int32) else 0) = 0
  split <;> rfl
theorem cs_cp (f g : Nat → Int32) (s p i : Nat) : upd (va_cpy f g s p i) (p + i) (f (s + i)) = va_cpy f g s p (i + 1) := by
  funext k
  show (if k = p + i then f (s + i) else if p ≤ k ∧ k < p + i then f (s + (k - p)) else g k) = if p ≤ k ∧ k < p + (i + 1) then f (s + (k - p)) else g k
  by_cases e : k = p + i
  · rw [if_pos e, if_pos (by omega), show k - p = i by omega]
  · rw [if_neg e]
    by_cases z : p ≤ k ∧ k < p + i
    · rw [if_pos z, if_pos (by omega)]
    · rw [if_neg z, if_neg (by omega)]
theorem cs_cp0 (f g : Nat → Int32) (s p : Nat) : g = va_cpy f g s p 0 := by
  funext k
  show g k = if p ≤ k ∧ k < p + 0 then f (s + (k - p)) else g k
  rw [if_neg (by omega)]
theorem cs_shs (a : Nat → Int32) (p d i : Nat) (hd : 0 < d) : upd (cs_sh a p d i) (p + i) (cs_sh a p d i (p + i + d)) = cs_sh a p d (i + 1) := by
  funext k
  have e0 : cs_sh a p d i (p + i + d) = a (p + i + d) := if_neg (by omega)
  rw [e0]
  show (if k = p + i then a (p + i + d) else if p ≤ k ∧ k < p + i then a (k + d) else a k) = if p ≤ k ∧ k < p + (i + 1) then a (k + d) else a k
  by_cases e : k = p + i
  · rw [if_pos e, if_pos (by omega), e]
  · rw [if_neg e]
    by_cases z : p ≤ k ∧ k < p + i
    · rw [if_pos z, if_pos (by omega)]
    · rw [if_neg z, if_neg (by omega)]
theorem cs_sh0 (a : Nat → Int32) (p d : Nat) : a = cs_sh a p d 0 := by
  funext k
  show a k = if p ≤ k ∧ k < p + 0 then a (k + d) else a k
  rw [if_neg (by omega)]
theorem cs_shi {a : Nat → Int32} {p d n j : Nat} (h : p ≤ j) (h2 : j < p + n) : cs_sh a p d n j = a (j + d) := if_pos ⟨h, h2⟩
theorem cs_sho {a : Nat → Int32} {p d n j : Nat} (h : j < p ∨ p + n ≤ j) : cs_sh a p d n j = a j := if_neg (by omega)
theorem cs_ma (a b c : Nat) : nI a * nI b + nI c = nI (a * b + c) := by rw [pk_mul, nI_add]
theorem cs_mm (a b c d : Nat) : nI a * (nI b * nI c + nI d) = nI (a * (b * c + d)) := by rw [pk_mul, nI_add, pk_mul]
theorem cs_mma (a b c d e : Nat) : nI a * (nI b * nI c + nI d) + nI e = nI (a * (b * c + d) + e) := by rw [pk_mul, nI_add, pk_mul, nI_add]
theorem cs_and {A B : Prop} (a : A) (b : B) : A ∧ B := ⟨a, b⟩
end
section
/-! the leaves: feed, headCheck, cellsOf, paddedByte, checkOfFrame, forget, drop, turnBits, isMended -/
section
variable {f0 f1 f2 : Int32} {a1 a2 a3 a4 a5 a6 a7 a8 a9 a10 a11 a12 a13 a14 a15 a16 a17 a18 a19 a20 a21 a22 a23 a24 a25 a26 a27 a28 a29 : Nat → Int32}
def cs_fs (c : Int32) : Int32 := if (c &&& 1) = 1 then ((c.toUInt32 >>> ((1 : Int32).toUInt32 &&& Int32.toUInt32 31)).toInt32) ^^^ (-306674912) else ((c.toUInt32 >>> ((1 : Int32).toUInt32 &&& Int32.toUInt32 31)).toInt32) ^^^ 0
def cs_fi (c : Int32) : Nat → Int32
  | 0 => c
  | n + 1 => cs_fs (cs_fi c n)
/-- one byte fed -/
def cs_fd (c b : Int32) : Int32 := cs_fi (c ^^^ b) 8
theorem cs_feed {post : St2 → Prop} {b : Int32} (H : post (f0, f1, cs_fd f2 b, a1, a2, a3, a4, a5, a6, a7, a8, a9, a10, a11, a12, a13, a14, a15, a16, a17, a18, a19, a20, a21, a22, a23, a24, a25, a26, a27, a28, a29)) : wpX_feed post (f0, f1, f2, a1, a2, a3, a4, a5, a6, a7, a8, a9, a10, a11, a12, a13, a14, a15, a16, a17, a18, a19, a20, a21, a22, a23, a24, a25, a26, a27, a28, a29) b :=
  nm_e (cs_lp (fun n i (c : Int32) => wX_feed_12 post f0 f1 a1 a2 a3 a4 a5 a6 a7 a8 a9 a10 a11 a12 a13 a14 a15 a16 a17 a18 a19 a20 a21 a22 a23 a24 a25 a26 a27 a28 a29 n (nI i) c) (fun i => cs_fi (f2 ^^^ b) i) 8 (f2 ^^^ b) rfl
    (fun n => pk_le 8 8 (fun _ => H) (fun z => absurd z (by omega)))
    (fun n i hi hw => pk_le 8 i (fun z => absurd z (by omega)) (fun _ =>
      (Classical.em ((cs_fi (f2 ^^^ b) i &&& 1) = 1)).elim
        (fun hc => br_t hc (nm_r (if_pos hc : cs_fs (cs_fi (f2 ^^^ b) i) = _).symm (nm_r (nI_1 i) hw)))
        (fun hc => br_f hc (nm_r (if_neg hc : cs_fs (cs_fi (f2 ^^^ b) i) = _).symm (nm_r (nI_1 i) hw))))))
def cs_hs (x4 x3 x5 : Int32) : Int32 := if (((x3 >>> ((7 : Int32) &&& 31)) ^^^ ((x4 >>> (x5 &&& 31)) &&& 1)) &&& 1) = 1 then ((x3 <<< ((1 : Int32) &&& 31)) &&& 255) ^^^ 7 else ((x3 <<< ((1 : Int32) &&& 31)) &&& 255) ^^^ 0
def cs_hi (x4 : Int32) : Nat → Int32
  | 0 => 0
  | i + 1 => cs_hs x4 (cs_hi x4 i) (23 - nI i)
/-- the check of a head -/
def cs_hc (a b c : Int32) : Int32 := cs_hi (((a <<< ((16 : Int32) &&& 31)) ||| (b <<< ((8 : Int32) &&& 31))) ||| c) 24
theorem cs_h24 : ∀ i, i < 24 → ¬ ((23 : Int32) - nI i < 0) := by decide
theorem cs_hm (i : Nat) : (23 : Int32) - nI i + (-1) = 23 - nI (i + 1) := by
  rw [← nI_1]
  grind
theorem cs_headCheck {post : Int32 → Prop} {a b c : Int32} (H : post (cs_hc a b c)) : wpX_headCheck post () a b c := by
  refine nm_e ?_
  obtain ⟨n, hn⟩ := cs_lp (fun n i (v : Int32) => ∀ x5, x5 = (23 : Int32) - nI i → wX_headCheck_19 post (((a <<< ((16 : Int32) &&& 31)) ||| (b <<< ((8 : Int32) &&& 31))) ||| c) n v x5)
    (fun i => cs_hi (((a <<< ((16 : Int32) &&& 31)) ||| (b <<< ((8 : Int32) &&& 31))) ||| c) i) 24 0 rfl
    (fun n x5 e => br_t (by rw [e]; decide) H)
    (fun n i hi hw x5 e => by
      subst e
      refine br_f (cs_h24 i hi) (nm_e ?_)
      refine (Classical.em (((((cs_hi (((a <<< ((16 : Int32) &&& 31)) ||| (b <<< ((8 : Int32) &&& 31))) ||| c) i) >>> ((7 : Int32) &&& 31)) ^^^ (((((a <<< ((16 : Int32) &&& 31)) ||| (b <<< ((8 : Int32) &&& 31))) ||| c) >>> (((23 : Int32) - nI i) &&& 31)) &&& 1)) &&& 1) = 1)).elim (fun hc => ?_) (fun hc => ?_)
      · exact br_t hc (nm_r (if_pos hc : cs_hs _ _ _ = _).symm (nm_r (cs_hm i) (hw _ rfl)))
      · exact br_f hc (nm_r (if_neg hc : cs_hs _ _ _ = _).symm (nm_r (cs_hm i) (hw _ rfl))))
  exact ⟨n, hn 23 (by decide)⟩
theorem cs_ce {b : Nat} (hb : b < 1000) : (nI b + 12) / 8 = nI ((b + 12) / 8) := by
  have e : nI b + 12 = nI (b + 12) := nI_add b 12
  rw [e]
  exact pk_div (d := 8) (by omega) (by omega) (by omega)
theorem cs_cellsOf {post : Int32 → Prop} {b : Nat} (hb : b < 1000) (H : post (nI ((b + 12) / 8))) : wpX_cellsOf post () (nI b) :=
  And.intro (by decide) (ek_v (P := post) (cs_ce hb) H)
theorem cs_isCircuit {post : Int32 → Prop} {c : Nat} (hc : c < 8) (H : post 1) : wpX_isCircuit post () (nI c) :=
  br_f (nI_pos (by omega)) (br_f (nI_ge (b := 8) hc (by decide)) H)
theorem cs_isStation {post : Int32 → Prop} {c : Nat} (hc : c < 4) (H : post 1) : wpX_isStation post () (nI c) :=
  br_f (nI_pos (by omega)) (br_f (nI_ge (b := 4) hc (by decide)) H)
/-- byte i of a frame of L bytes B with what is put behind it, but for the check number -/
def cs_pb (L : Nat) (B : Nat → Int32) (al : Nat) (i : Nat) : Int32 := if i < L then B i else if i + 5 = al then nI L else 0
/-- the check number over the first i bytes -/
def cs_ck (P : Nat → Int32) : Nat → Int32
  | 0 => -1
  | i + 1 => cs_fd (cs_ck P i) (P i)
theorem cs_paddedByte {post : Int32 → Prop} {f i al L : Nat} {B : Nat → Int32} (hf : f < 16) (hi : i < 100) (ha : 5 ≤ al) (ha2 : al < 100) (hL : L ≤ 27) (h8 : a8 f = nI L) (h9 : ∀ j, j < L → a9 (27 * f + j) = B j)
    (H : post (cs_pb L B al i)) : wpX_paddedByte post (f0, f1, f2, a1, a2, a3, a4, a5, a6, a7, a8, a9, a10, a11, a12, a13, a14, a15, a16, a17, a18, a19, a20, a21, a22, a23, a24, a25, a26, a27, a28, a29) (nI f) (nI i) (nI al) := by
  have e1 : (nI f).toNatClampNeg = f := nI_clamp (by omega)
  have e2 : (27 : Int32) * nI f + nI i = nI (27 * f + i) := cs_ma 27 f i
  have e3 : (nI (27 * f + i)).toNatClampNeg = 27 * f + i := nI_clamp (by omega)
  refine And.intro (pk_in f 16 hf) ?_
  rw [e1, h8, e2, e3]
  refine pk_le L i (fun z => ?_) (fun z => ⟨pk_in (27 * f + i) 432 (by omega), ?_⟩)
  · refine pk_eq i (al - 5) (fun y => ⟨pk_in f 16 hf, ?_⟩) (fun y => ?_) rfl (pk_sub (b := 5) ha)
    · have e : cs_pb L B al i = nI L := by
        unfold cs_pb
        rw [if_neg (by omega), if_pos (by omega)]
      rw [← e]
      exact H
    · have e : cs_pb L B al i = 0 := by
        unfold cs_pb
        rw [if_neg (by omega), if_neg (by omega)]
      rw [← e]
      exact H
  · have e : cs_pb L B al i = B i := by
      unfold cs_pb
      rw [if_pos z]
    rw [h9 i z, ← e]
    exact H
theorem cs_checkOfFrame {post : Int32 → St2 → Prop} {f al L : Nat} {B : Nat → Int32} (hf : f < 16) (ha : 5 ≤ al) (ha2 : al < 100) (hL : L ≤ 27) (h8 : a8 f = nI L) (h9 : ∀ j, j < L → a9 (27 * f + j) = B j)
    (H : post (cs_ck (cs_pb L B al) (al - 4)) (f0, f1, cs_ck (cs_pb L B al) (al - 4), a1, a2, a3, a4, a5, a6, a7, a8, a9, a10, a11, a12, a13, a14, a15, a16, a17, a18, a19, a20, a21, a22, a23, a24, a25, a26, a27, a28, a29)) : wpX_checkOfFrame post (f0, f1, f2, a1, a2, a3, a4, a5, a6, a7, a8, a9, a10, a11, a12, a13, a14, a15, a16, a17, a18, a19, a20, a21, a22, a23, a24, a25, a26, a27, a28, a29) (nI f) (nI al) :=
  cs_lp (fun n i (c : Int32) => wX_checkOfFrame_7 post (nI f) (nI al) n (nI i) f0 f1 c a1 a2 a3 a4 a5 a6 a7 a8 a9 a10 a11 a12 a13 a14 a15 a16 a17 a18 a19 a20 a21 a22 a23 a24 a25 a26 a27 a28 a29) (fun i => cs_ck (cs_pb L B al) i) (al - 4) (-1) rfl
    (fun n => pk_le (al - 4) (al - 4) (fun _ => H) (fun z => absurd z (by omega)) (pk_sub (b := 4) (by omega)))
    (fun n i hi hw => pk_le (al - 4) i (fun z => absurd z (by omega)) (fun _ => cs_paddedByte hf (by omega) ha ha2 hL h8 h9 (cs_feed (nm_r (nI_1 i) hw))) (pk_sub (b := 4) (by omega)))
theorem cs_forget {post : St2 → Prop} {c : Nat} (hc : c < 8) (H : post (f0, f1, f2, a1, a2, a3, a4, a5, a6, a7, a8, a9, a10, a11, a12, a13, a14, a15, a16, a17, a18, a19, a20, a21, a22, a23, a24, upd a25 c 0, upd a26 c 0, a27, a28, a29)) : wpX_forget post (f0, f1, f2, a1, a2, a3, a4, a5, a6, a7, a8, a9, a10, a11, a12, a13, a14, a15, a16, a17, a18, a19, a20, a21, a22, a23, a24, a25, a26, a27, a28, a29) (nI c) :=
  And.intro (pk_in c 8 hc) (nm_r (by rw [nI_clamp (by omega)]) ⟨pk_in c 8 hc, nm_r (by rw [nI_clamp (by omega)]) H⟩)
theorem cs_drop {post : St2 → Prop} {c w : Nat} {x : Int32} (hc : c < 8) (hw : w < 7) (hx : ((a14 1) <<< ((8 : Int32) &&& 31)) ||| (a14 2) = x) (H : post (f0, f1, f2, a1, a2, a3, a4, a5, a6, a7, a8, a9, a10, a11, upd a12 c x, a13, a14, a15, a16, a17, a18, a19, a20, a21, a22, a23, a24, a25, a26, a27, a28, upd a29 w (a29 w + 1))) : wpX_drop post (f0, f1, f2, a1, a2, a3, a4, a5, a6, a7, a8, a9, a10, a11, a12, a13, a14, a15, a16, a17, a18, a19, a20, a21, a22, a23, a24, a25, a26, a27, a28, a29) (nI c) (nI w) :=
  And.intro (pk_in w 7 hw) ⟨pk_in w 7 hw, nm_r (by rw [nI_clamp (by omega)]) ⟨pk_in c 8 hc, nm_r (by rw [nI_clamp (by omega), hx]) H⟩⟩
theorem cs_n1 : ¬ (0 : Int32) = 1 := by decide
theorem cs_n2 : ¬ (0 : Int32) = 2 := by decide
theorem cs_n3 : ¬ (0 : Int32) = 3 := by decide
theorem cs_turnBits {post : St2 → Prop} {s : Nat} (hs : s < 4) (H : post (f0, f1, f2, a1, a2, a3, a4, a5, a6, a7, a8, a9, a10, a11, a12, a13, a14, a15, fun _ => 0, a17, a18, a19, a20, a21, a22, a23, a24, a25, a26, a27, a28, a29)) : wpX_turnBits post (f0, f1, f2, a1, a2, a3, a4, a5, a6, a7, a8, a9, a10, a11, a12, a13, a14, a15, fun _ => 0, a17, a18, a19, a20, a21, a22, a23, a24, a25, a26, a27, a28, a29) (nI s) :=
  And.intro (pk_in s 4 hs) (nm_e (And.intro (pk_in s 4 hs) (br_f cs_n1 (And.intro (pk_in s 4 hs) (br_f cs_n2 (And.intro (pk_in s 4 hs) (br_f cs_n2
    (And.intro (pk_in s 4 hs) (br_f cs_n3 (And.intro (pk_in s 4 hs) (nm_r (cs_u0 _) H)))))))))))
theorem cs_isMended {post : Int32 → St2 → Prop} {s : Nat} (hs : s < 4) (h3 : a14 3 = cs_hc (a14 0) (a14 1) (a14 2)) (H : post 1 (f0, f1, f2, a1, a2, a3, a4, a5, a6, a7, a8, a9, a10, a11, a12, a13, a14, a15, a16, a17, fun _ => 0, a19, a20, a21, a22, a23, a24, a25, a26, a27, a28, a29)) : wpX_isMended post (f0, f1, f2, a1, a2, a3, a4, a5, a6, a7, a8, a9, a10, a11, a12, a13, a14, a15, a16, a17, fun _ => 0, a19, a20, a21, a22, a23, a24, a25, a26, a27, a28, a29) (nI s) :=
  And.intro (pk_in s 4 hs) (br_t rfl (cs_headCheck (br_t (by rw [h3]; exact Int32.xor_self) (And.intro (pk_in s 4 hs) (nm_r (cs_u0 _) (And.intro (pk_in s 4 hs) (br_t rfl H)))))))
end
end
section
/-! endFrame, makeCell -/
section
variable {f0 f1 f2 : Int32} {a1 a2 a3 a4 a5 a6 a7 a8 a9 a10 a11 a12 a13 a14 a15 a16 a17 a18 a19 a20 a21 a22 a23 a24 a25 a26 a27 a28 a29 : Nat → Int32}
theorem cs_endFrame_47 {post : St2 → Prop} {f : Nat} (hf : f < 15) (H : post (f0, f1, f2, a1, a2, a3, a4, a5, a6, a7, a8, cs_sh a9 (27 * f) 27 27, a10, a11, a12, a13, a14, a15, a16, a17, a18, a19, a20, a21, a22, a23, a24, a25, a26, a27, a28, a29)) : ∃ n, wX_endFrame_47 post (nI f) f0 f1 f2 n 0 a1 a2 a3 a4 a5 a6 a7 a8 a9 a10 a11 a12 a13 a14 a15 a16 a17 a18 a19 a20 a21 a22 a23 a24 a25 a26 a27 a28 a29 :=
  cs_lp (fun n i a => wX_endFrame_47 post (nI f) f0 f1 f2 n (nI i) a1 a2 a3 a4 a5 a6 a7 a8 a a10 a11 a12 a13 a14 a15 a16 a17 a18 a19 a20 a21 a22 a23 a24 a25 a26 a27 a28 a29) (fun i => cs_sh a9 (27 * f) 27 i) 27 a9 (cs_sh0 _ _ _)
    (fun n => pk_le 27 27 (fun _ => H) (fun z => absurd z (by omega)))
    (fun n i hi hw => pk_le 27 i (fun z => absurd z (by omega)) (fun _ => by
      have e2 : (27 : Int32) * nI f + nI i = nI (27 * f + i) := cs_ma 27 f i
      have e3 : (27 : Int32) * nI f + 27 + nI i = nI (27 * f + i + 27) := by
        rw [show (27 : Int32) = nI 27 from rfl, pk_mul, nI_add, nI_add]
        congr 1
        omega
      refine ⟨pk_in _ 432 (by omega) e3, pk_in _ 432 (by omega) e2, nm_r ?_ (nm_r (nI_1 i) hw)⟩
      rw [e2, e3, nI_clamp (by omega), nI_clamp (by omega)]
      exact cs_shs a9 (27 * f) 27 i (by omega)))
theorem cs_endFrame {post : St2 → Prop} {c : Nat} (hc : c < 8) (H : post (f0, f1, f2, a1, a2, a3, a4, a5, a6, upd a7 c (a7 c - 1), upd a8 (2 * c) (a8 (2 * c + 1)), cs_sh a9 (27 * (2 * c)) 27 27, upd a10 c 0, upd a11 c (a11 c + 1), a12, a13, a14, a15, a16, a17, a18, a19, a20, a21, a22, a23, a24, a25, a26, a27, a28, a29)) : wpX_endFrame post (f0, f1, f2, a1, a2, a3, a4, a5, a6, a7, a8, a9, a10, a11, a12, a13, a14, a15, a16, a17, a18, a19, a20, a21, a22, a23, a24, a25, a26, a27, a28, a29) (nI c) := by
  have e : (nI c).toNatClampNeg = c := nI_clamp (by omega)
  have e2 : (2 : Int32) * nI c = nI (2 * c) := pk_mul 2 c
  have e3 : nI (2 * c) + 1 = nI (2 * c + 1) := nI_1 _
  refine And.intro (pk_in c 8 hc) (nm_r (by rw [e]) ⟨pk_in c 8 hc, pk_in c 8 hc, nm_r (by rw [e]) ⟨pk_in c 8 hc, pk_in c 8 hc, nm_r (by rw [e]) (nm_r e2 ⟨pk_in _ 16 (by omega) e3, pk_in (2 * c) 16 (by omega), nm_r (by rw [e3, nI_clamp (by omega), nI_clamp (by omega)]) (cs_endFrame_47 (by omega) H)⟩)⟩⟩)
/-- word i of a padded frame, its check number at its end -/
def cs_pw (P : Nat → Int32) (al i : Nat) : Int32 := if i < al - 4 then P i else ((cs_ck P (al - 4)).toUInt32 >>> ((nI (8 * (al - 1 - i))).toUInt32 &&& Int32.toUInt32 31)).toInt32 &&& 255
/-- the first word of a cell -/
def cs_h0 (c k cl : Nat) : Int32 := nI (16 * c + (if k + 1 = cl then 8 else 0) + k)
/-- the words of a cell -/
def cs_cw (c n k cl : Nat) (P : Nat → Int32) (i : Nat) : Int32 := if i = 0 then cs_h0 c k cl else if i = 1 then 0 else if i = 2 then nI n else if i = 3 then cs_hc (cs_h0 c k cl) 0 (nI n) else cs_pw P (8 * cl) (8 * k + (i - 4))
theorem cs_makeCell_129 {post : St2 → Prop} {c k cl L : Nat} {B : Nat → Int32} (hc : c < 8) (hk : k < cl) (hcl : cl ≤ 4) (hL : L ≤ 27)
    (h10 : a10 c = nI k) (h8 : a8 (2 * c) = nI L) (h9 : ∀ j, j < L → a9 (27 * (2 * c) + j) = B j)
    (Hn : k + 1 ≠ cl → post (f0, f1, f2, a1, a2, a3, a4, a5, a6, a7, a8, a9, upd a10 c (nI (k + 1)), a11, a12, a13, va_cpy (fun i => cs_pw (cs_pb L B (8 * cl)) (8 * cl) (8 * k + i)) a14 0 4 8, a15, a16, a17, a18, a19, a20, a21, a22, a23, a24, a25, a26, a27, a28, a29))
    (Hl : k + 1 = cl → post (f0, f1, f2, a1, a2, a3, a4, a5, a6, upd a7 c (a7 c - 1), upd a8 (2 * c) (a8 (2 * c + 1)), cs_sh a9 (27 * (2 * c)) 27 27, upd (upd a10 c (nI (k + 1))) c 0, upd a11 c (a11 c + 1), a12, a13, va_cpy (fun i => cs_pw (cs_pb L B (8 * cl)) (8 * cl) (8 * k + i)) a14 0 4 8, a15, a16, a17, a18, a19, a20, a21, a22, a23, a24, a25, a26, a27, a28, a29)) :
    ∃ n, wX_makeCell_129 post (nI c) (nI (2 * c)) (nI cl) (nI k) (nI (8 * cl)) (cs_ck (cs_pb L B (8 * cl)) (8 * cl - 4)) f0 f1 f2 n 0 a1 a2 a3 a4 a5 a6 a7 a8 a9 a10 a11 a12 a13 a14 a15 a16 a17 a18 a19 a20 a21 a22 a23 a24 a25 a26 a27 a28 a29 := by
  have e : (nI c).toNatClampNeg = c := nI_clamp (by omega)
  refine cs_lp (fun n i a => wX_makeCell_129 post (nI c) (nI (2 * c)) (nI cl) (nI k) (nI (8 * cl)) (cs_ck (cs_pb L B (8 * cl)) (8 * cl - 4)) f0 f1 f2 n (nI i) a1 a2 a3 a4 a5 a6 a7 a8 a9 a10 a11 a12 a13 a a15 a16 a17 a18 a19 a20 a21 a22 a23 a24 a25 a26 a27 a28 a29) (fun i => va_cpy (fun i => cs_pw (cs_pb L B (8 * cl)) (8 * cl) (8 * k + i)) a14 0 4 i) 8 a14 (cs_cp0 _ _ _ _) (fun n => ?_) (fun n i hi hw => ?_)
  · refine pk_le 8 8 (fun _ => ⟨pk_in c 8 hc, pk_in c 8 hc, nm_r (e' := upd a10 c (nI (k + 1))) (by rw [e, h10, nI_1]) ⟨pk_in c 8 hc, ?_⟩⟩) (fun z => absurd z (by omega))
    rw [e, pk_us]
    exact pk_eq (k + 1) cl (fun z => cs_endFrame hc (Hl z)) (fun z => Hn z)
  · refine pk_le 8 i (fun z => absurd z (by omega)) (fun _ => nm_r (cs_ma 8 k i) ?_)
    have e4 : (4 : Int32) + nI i = nI (4 + i) := nI_add 4 i
    have e5 : (nI (4 + i)).toNatClampNeg = 4 + i := nI_clamp (by omega)
    have g := cs_cp (fun i => cs_pw (cs_pb L B (8 * cl)) (8 * cl) (8 * k + i)) a14 0 4 i
    rw [Nat.zero_add] at g
    refine pk_lt (8 * k + i) (8 * cl - 4) (fun z => ?_) (fun z => ?_) rfl (pk_sub (b := 4) (by omega))
    · refine cs_paddedByte (L := L) (B := B) (by omega) (by omega) (by omega) (by omega) hL h8 h9 ⟨pk_in (4 + i) 12 (by omega) e4, nm_r ?_ (nm_r (nI_1 i) hw)⟩
      rw [e4, e5, ← g]
      congr 1
      unfold cs_pw
      rw [if_pos z]
    · refine ⟨pk_in (4 + i) 12 (by omega) e4, nm_r ?_ (nm_r (nI_1 i) hw)⟩
      have e6 : (8 : Int32) * (nI (8 * cl) - 1 - nI (8 * k + i)) = nI (8 * (8 * cl - 1 - (8 * k + i))) := by
        rw [show (1 : Int32) = nI 1 from rfl, pk_sub (by omega), pk_sub (by omega)]
        exact pk_mul 8 _
      rw [e4, e5, ← g]
      congr 1
      unfold cs_pw
      rw [if_neg (by omega), e6]
theorem cs_t0 : ∀ c, c < 8 → ∀ k, k < 4 → ((nI c <<< ((4 : Int32) &&& 31)) ||| nI 0) ||| nI k = nI (16 * c + 0 + k) ∧ ((nI c <<< ((4 : Int32) &&& 31)) ||| nI 8) ||| nI k = nI (16 * c + 8 + k) := by decide +kernel
theorem cs_t1 : ∀ n, n < 256 → (nI n >>> ((8 : Int32) &&& 31)) &&& 255 = 0 ∧ nI n &&& 255 = nI n := by decide +kernel
theorem cs_makeCell_59 {post : St2 → Prop} {c k n cl L z : Nat} {B : Nat → Int32} (hc : c < 8) (hk : k < cl) (hcl : cl ≤ 4) (hn : n < 256) (hL : L ≤ 27) (hz : z = if k + 1 = cl then 8 else 0)
    (h10 : a10 c = nI k) (h11 : a11 c = nI n) (h8 : a8 (2 * c) = nI L) (h9 : ∀ j, j < L → a9 (27 * (2 * c) + j) = B j)
    (Hn : ∀ b, (∀ i, i < 12 → b i = cs_cw c n k cl (cs_pb L B (8 * cl)) i) → k + 1 ≠ cl → post (f0, f1, f2, a1, a2, a3, a4, a5, a6, a7, a8, a9, upd a10 c (nI (k + 1)), a11, a12, a13, b, a15, a16, a17, a18, a19, a20, a21, a22, a23, a24, a25, a26, a27, a28, a29))
    (Hl : ∀ b, (∀ i, i < 12 → b i = cs_cw c n k cl (cs_pb L B (8 * cl)) i) → k + 1 = cl → post (f0, f1, f2, a1, a2, a3, a4, a5, a6, upd a7 c (a7 c - 1), upd a8 (2 * c) (a8 (2 * c + 1)), cs_sh a9 (27 * (2 * c)) 27 27, upd (upd a10 c (nI (k + 1))) c 0, upd a11 c (a11 c + 1), a12, a13, b, a15, a16, a17, a18, a19, a20, a21, a22, a23, a24, a25, a26, a27, a28, a29)) :
    wX_makeCell_59 post (nI c) (nI (2 * c)) (nI cl) (nI k) (nI (8 * cl)) (cs_ck (cs_pb L B (8 * cl)) (8 * cl - 4)) (nI z) (nI c <<< ((4 : Int32) &&& 31)) 0 f0 f1 f2 a1 a2 a3 a4 a5 a6 a7 a8 a9 a10 a11 a12 a13 a14 a15 a16 a17 a18 a19 a20 a21 a22 a23 a24 a25 a26 a27 a28 a29 := by
  have e : (nI c).toNatClampNeg = c := nI_clamp (by omega)
  have e0 : ((nI c <<< ((4 : Int32) &&& 31)) ||| nI z) ||| nI k = cs_h0 c k cl := by
    unfold cs_h0
    rw [← hz]
    by_cases y : k + 1 = cl
    · rw [if_pos y] at hz
      rw [hz]
      exact (cs_t0 c hc k (by omega)).2
    · rw [if_neg y] at hz
      rw [hz]
      exact (cs_t0 c hc k (by omega)).1
  have F : ∀ i, i < 12 → va_cpy (fun i => cs_pw (cs_pb L B (8 * cl)) (8 * cl) (8 * k + i)) (upd (upd (upd (upd a14 0 (cs_h0 c k cl)) 1 0) 2 (nI n)) 3 (cs_hc (cs_h0 c k cl) 0 (nI n))) 0 4 8 i = cs_cw c n k cl (cs_pb L B (8 * cl)) i := by
    intro i hi
    by_cases y : i < 4
    · rw [pk_cpy_out (Or.inl y)]
      match i, y with
      | 0, _ => rfl
      | 1, _ => rfl
      | 2, _ => rfl
      | 3, _ => rfl
    · rw [pk_cpy_in (by omega) (by omega)]
      unfold cs_cw
      rw [if_neg (by omega), if_neg (by omega), if_neg (by omega), if_neg (by omega), Nat.zero_add]
  refine And.intro (pk_in 0 12 (by omega)) (nm_r (e' := upd a14 0 (cs_h0 c k cl)) (by rw [e0]; rfl) ⟨pk_in c 8 hc, nm_r (e' := upd (upd a14 0 (cs_h0 c k cl)) 1 0) (by rw [e, h11, (cs_t1 n hn).1]) ⟨pk_in c 8 hc, nm_r (e' := upd (upd (upd a14 0 (cs_h0 c k cl)) 1 0) 2 (nI n)) (by rw [e, h11, (cs_t1 n hn).2]) ?_⟩⟩)
  refine cs_headCheck (nm_e ?_)
  exact cs_makeCell_129 hc hk hcl hL h10 h8 h9 (Hn _ F) (Hl _ F)
theorem cs_makeCell {post : St2 → Prop} {c k n cl L : Nat} {B : Nat → Int32} (hc : c < 8) (hk : k < cl) (hcl : (L + 12) / 8 = cl) (hn : n < 256) (hL : L ≤ 27) (h1 : 1 ≤ L)
    (h10 : a10 c = nI k) (h11 : a11 c = nI n) (h8 : a8 (2 * c) = nI L) (h9 : ∀ j, j < L → a9 (27 * (2 * c) + j) = B j)
    (Hn : ∀ b, (∀ i, i < 12 → b i = cs_cw c n k cl (cs_pb L B (8 * cl)) i) → k + 1 ≠ cl → post (f0, f1, cs_ck (cs_pb L B (8 * cl)) (8 * cl - 4), a1, a2, a3, a4, a5, a6, a7, a8, a9, upd a10 c (nI (k + 1)), a11, a12, a13, b, a15, a16, a17, a18, a19, a20, a21, a22, a23, a24, a25, a26, a27, a28, a29))
    (Hl : ∀ b, (∀ i, i < 12 → b i = cs_cw c n k cl (cs_pb L B (8 * cl)) i) → k + 1 = cl → post (f0, f1, cs_ck (cs_pb L B (8 * cl)) (8 * cl - 4), a1, a2, a3, a4, a5, a6, upd a7 c (a7 c - 1), upd a8 (2 * c) (a8 (2 * c + 1)), cs_sh a9 (27 * (2 * c)) 27 27, upd (upd a10 c (nI (k + 1))) c 0, upd a11 c (a11 c + 1), a12, a13, b, a15, a16, a17, a18, a19, a20, a21, a22, a23, a24, a25, a26, a27, a28, a29)) :
    wpX_makeCell post (f0, f1, f2, a1, a2, a3, a4, a5, a6, a7, a8, a9, a10, a11, a12, a13, a14, a15, a16, a17, a18, a19, a20, a21, a22, a23, a24, a25, a26, a27, a28, a29) (nI c) := by
  have e : (nI c).toNatClampNeg = c := nI_clamp (by omega)
  have e2 : (nI (2 * c)).toNatClampNeg = 2 * c := nI_clamp (by omega)
  refine nm_r (pk_mul 2 c) ⟨pk_in (2 * c) 16 (by omega), ?_⟩
  rw [e2, h8]
  refine cs_cellsOf (by omega) ⟨pk_in c 8 hc, nm_r (e' := nI k) (by rw [e, h10]) (nm_r (e' := nI (8 * cl)) (by rw [hcl]; exact pk_mul 8 cl) ?_)⟩
  rw [hcl]
  refine cs_checkOfFrame (L := L) (B := B) (by omega) (by omega) (by omega) hL h8 h9 ?_
  refine pk_eq k (cl - 1) (fun z => ?_) (fun z => ?_) rfl (pk_sub (b := 1) (by omega))
  · exact cs_makeCell_59 (z := 8) hc hk (by omega) hn hL (by rw [if_pos (by omega)]) h10 h11 h8 h9 Hn Hl
  · exact cs_makeCell_59 (z := 0) hc hk (by omega) hn hL (by rw [if_neg (by omega)]) h10 h11 h8 h9 Hn Hl
end
end
section
/-! nextCircuit, and letting a cell into the queue -/
section
variable {f0 f1 f2 : Int32} {a1 a2 a3 a4 a5 a6 a7 a8 a9 a10 a11 a12 a13 a14 a15 a16 a17 a18 a19 a20 a21 a22 a23 a24 a25 a26 a27 a28 a29 : Nat → Int32}
theorem cs_vc {l : List Nat} {d : Nat} (h : d < 1000) : cs_v l (nI d).toNatClampNeg = nI (l.getD d 0) := by
  rw [nI_clamp (by omega)]
  rfl
def cs_g (op fm fr : List Nat) (s c : Nat) : Bool := op.getD c 0 != 0 && (fm.getD c 0 == s && fr.getD c 0 != 0)
/-- the next circuit, from the k-th on, m more tries -/
def cs_nf (g : Nat → Bool) (l : Nat) : Nat → Nat → Option Nat
  | 0, _ => none
  | m + 1, k => if g ((l + k) % 8) = true then some ((l + k) % 8) else cs_nf g l m (k + 1)
theorem cs_nextCircuit_2 {post : Int32 → Prop} {op fm fr ls : List Nat} {s : Nat} (hs : s < 4) (hl : ls.getD s 0 < 8) (ho : ∀ c, c < 8 → op.getD c 0 < 100) (hf : ∀ c, c < 8 → fm.getD c 0 < 100) (hr : ∀ c, c < 8 → fr.getD c 0 < 100) :
    ∀ m k, k + m = 9 → (∀ c, cs_nf (cs_g op fm fr s) (ls.getD s 0) m k = some c → post (nI c)) → (cs_nf (cs_g op fm fr s) (ls.getD s 0) m k = none → post (-1)) →
      ∃ n, wX_nextCircuit_2 post (nI s) f0 f1 f2 (cs_v op) (cs_v fm) a3 a4 a5 a6 (cs_v fr) a8 a9 a10 a11 a12 a13 a14 (cs_v ls) a16 a17 a18 a19 a20 a21 a22 a23 a24 a25 a26 a27 a28 a29 n (nI k) := by
  intro m
  induction m with
  | zero =>
    intro k hk _ Hn
    exact ⟨1, pk_lt 8 k (fun _ => Hn rfl) (fun z => absurd z (by omega))⟩
  | succ m ih =>
    intro k hk Hs Hn
    have hd : (ls.getD s 0 + k) % 8 < 8 := Nat.mod_lt _ (by omega)
    have e1 : cs_v ls (nI s).toNatClampNeg + nI k - (cs_v ls (nI s).toNatClampNeg + nI k) / 8 * 8 = nI ((ls.getD s 0 + k) % 8) := by
      rw [cs_vc (by omega), nI_add]
      exact pk_rem (d := 8) (by omega) (by omega) (by omega)
    unfold cs_nf at Hs Hn
    have go : cs_g op fm fr s ((ls.getD s 0 + k) % 8) = false → ∃ n, wX_nextCircuit_2 post (nI s) f0 f1 f2 (cs_v op) (cs_v fm) a3 a4 a5 a6 (cs_v fr) a8 a9 a10 a11 a12 a13 a14 (cs_v ls) a16 a17 a18 a19 a20 a21 a22 a23 a24 a25 a26 a27 a28 a29 n (nI (k + 1)) := by
      intro hg
      rw [hg] at Hs Hn
      exact ih (k + 1) (by omega) Hs Hn
    by_cases hg : cs_g op fm fr s ((ls.getD s 0 + k) % 8) = true
    · rw [if_pos hg] at Hs
      have hg' := hg
      unfold cs_g at hg'
      simp only [Bool.and_eq_true, bne_iff_ne, beq_iff_eq, ne_eq] at hg'
      refine ⟨1, pk_lt 8 k (fun z => absurd z (by omega)) (fun _ => ⟨pk_in s 4 hs, by decide, nm_r e1 ⟨pk_in _ 8 hd, ?_⟩⟩)⟩
      refine pk_eq (op.getD ((ls.getD s 0 + k) % 8) 0) 0 (fun z => absurd z hg'.1) (fun _ => ⟨pk_in _ 8 hd, ?_⟩) (cs_vc (by omega)) rfl (by have := ho _ hd; omega)
      refine pk_eq (fm.getD ((ls.getD s 0 + k) % 8) 0) s (fun _ => ⟨pk_in _ 8 hd, ?_⟩) (fun z => absurd hg'.2.1 z) (cs_vc (by omega)) rfl (by have := hf _ hd; omega)
      exact pk_le (fr.getD ((ls.getD s 0 + k) % 8) 0) 0 (fun z => absurd (Nat.le_zero.mp z) hg'.2.2) (fun _ => Hs _ rfl) (cs_vc (by omega)) rfl (by have := hr _ hd; omega)
    · have hg0 : cs_g op fm fr s ((ls.getD s 0 + k) % 8) = false := by
        cases h : cs_g op fm fr s ((ls.getD s 0 + k) % 8)
        · rfl
        · exact absurd h hg
      obtain ⟨n, hn⟩ := go hg0
      have hg' := hg
      unfold cs_g at hg'
      simp only [Bool.and_eq_true, bne_iff_ne, beq_iff_eq, ne_eq] at hg'
      refine ⟨n + 1, pk_lt 8 k (fun z => absurd z (by omega)) (fun _ => ⟨pk_in s 4 hs, by decide, nm_r e1 ⟨pk_in _ 8 hd, ?_⟩⟩)⟩
      refine pk_eq (op.getD ((ls.getD s 0 + k) % 8) 0) 0 (fun _ => nm_r (nI_1 k) hn) (fun z1 => ⟨pk_in _ 8 hd, ?_⟩) (cs_vc (by omega)) rfl (by have := ho _ hd; omega)
      refine pk_eq (fm.getD ((ls.getD s 0 + k) % 8) 0) s (fun z2 => ⟨pk_in _ 8 hd, ?_⟩) (fun _ => nm_r (nI_1 k) hn) (cs_vc (by omega)) rfl (by have := hf _ hd; omega)
      exact pk_le (fr.getD ((ls.getD s 0 + k) % 8) 0) 0 (fun _ => nm_r (nI_1 k) hn) (fun z3 => absurd ⟨z1, z2, fun z4 => absurd z3 (by omega)⟩ hg') (cs_vc (by omega)) rfl (by have := hr _ hd; omega)
theorem cs_nextCircuit {post : Int32 → Prop} {op fm fr ls : List Nat} {s : Nat} (hs : s < 4) (hl : ls.getD s 0 < 8) (ho : ∀ c, c < 8 → op.getD c 0 < 100) (hf : ∀ c, c < 8 → fm.getD c 0 < 100) (hr : ∀ c, c < 8 → fr.getD c 0 < 100)
    (Hs : ∀ c, cs_nf (cs_g op fm fr s) (ls.getD s 0) 8 1 = some c → post (nI c)) (Hn : cs_nf (cs_g op fm fr s) (ls.getD s 0) 8 1 = none → post (-1)) :
    wpX_nextCircuit post (f0, f1, f2, cs_v op, cs_v fm, a3, a4, a5, a6, cs_v fr, a8, a9, a10, a11, a12, a13, a14, cs_v ls, a16, a17, a18, a19, a20, a21, a22, a23, a24, a25, a26, a27, a28, a29) (nI s) :=
  cs_nextCircuit_2 hs hl ho hf hr 8 1 rfl Hs Hn
theorem cs_nfg {g : Nat → Bool} {l : Nat} : ∀ m k c, cs_nf g l m k = some c → c < 8 ∧ g c = true := by
  intro m
  induction m with
  | zero => intro k c h; exact absurd h.symm (Option.some_ne_none c)
  | succ m ih =>
    intro k c h
    unfold cs_nf at h
    by_cases hg : g ((l + k) % 8) = true
    · rw [if_pos hg] at h
      have e := Option.some.inj h
      rw [← e]
      exact ⟨Nat.mod_lt _ (by omega), hg⟩
    · rw [if_neg hg] at h
      exact ih _ _ h
theorem cs_nlt {d T : Nat} (h : d ≤ T + 40) (hd : d < 1000) (hT : T < 1000) : nI d - 40 ≤ nI T := by
  rw [Int32.le_iff_toInt_le, nI_toInt (by omega)]
  have e : (nI d - nI 40).toInt = (d : Int) - (40 : Nat) := pk_sub_toInt (by omega) (by omega)
  have e2 : (nI d - 40).toInt = (d : Int) - (40 : Nat) := e
  rw [e2]
  omega
theorem cs_admit_129 {post : St2 → Prop} {c n to q : Nat} (hc : c < 8) (ht : to < 4) (hq : q ≤ 6) (hx : ((a14 1) <<< ((8 : Int32) &&& 31)) ||| (a14 2) = nI n) (h3 : a3 c = nI to) (h19 : a19 to = nI q)
    (HB : q = 6 → post (f0, f1, f2, a1, a2, a3, a4, a5, a6, a7, a8, a9, a10, a11, upd a12 c (nI n), a13, a14, a15, a16, a17, a18, a19, a20, a21, a22, a23, a24, a25, a26, a27, a28, upd a29 2 (a29 2 + 1)))
    (HC : q ≠ 6 → post (f0, f1, f2, a1, a2, a3, a4, a5, a6, a7, a8, a9, a10, a11, a12, a13, a14, a15, a16, a17, a18, upd a19 to (nI (q + 1)), va_cpy a14 a20 0 (12 * (6 * to + q)) 12, a21, a22, a23, a24, a25, a26, a27, a28, a29)) : wX_admit_129 post (nI c) f0 f1 f2 a1 a2 a3 a4 a5 a6 a7 a8 a9 a10 a11 a12 a13 a14 a15 a16 a17 a18 a19 a20 a21 a22 a23 a24 a25 a26 a27 a28 a29 := by
  have e : (nI c).toNatClampNeg = c := nI_clamp (by omega)
  have et : (nI to).toNatClampNeg = to := nI_clamp (by omega)
  refine And.intro (pk_in c 8 hc) (nm_r (e' := nI to) (by rw [e, h3]) ⟨pk_in to 4 ht, ?_⟩)
  rw [et, h19]
  refine pk_eq q 6 (fun z => cs_drop (w := 2) hc (by omega) hx (HB z)) (fun z => ?_)
  refine cs_lp (fun n i a => wX_admit_157 post (nI to) f0 f1 f2 n (nI i) a1 a2 a3 a4 a5 a6 a7 a8 a9 a10 a11 a12 a13 a14 a15 a16 a17 a18 a19 a a21 a22 a23 a24 a25 a26 a27 a28 a29) (fun i => va_cpy a14 a20 0 (12 * (6 * to + q)) i) 12 a20 (cs_cp0 _ _ _ _) (fun n => ?_) (fun n i hi hw => ?_)
  · exact pk_le 12 12 (fun _ => ⟨pk_in to 4 ht, pk_in to 4 ht, nm_r (by rw [et, h19, nI_1]) (HC z)⟩) (fun y => absurd y (by omega))
  · have e2 : (12 : Int32) * (6 * nI to + a19 (nI to).toNatClampNeg) + nI i = nI (12 * (6 * to + q) + i) := by
      rw [et, h19]
      exact cs_mma 12 6 to q i
    refine pk_le 12 i (fun y => absurd y (by omega)) (fun _ => ⟨pk_in to 4 ht, pk_in i 12 hi, pk_in _ 288 (by omega) e2, nm_r ?_ (nm_r (nI_1 i) hw)⟩)
    rw [e2, nI_clamp (by omega), nI_clamp (by omega)]
    have g := cs_cp a14 a20 0 (12 * (6 * to + q)) i
    rw [Nat.zero_add] at g
    exact g
theorem cs_admit_67 {post : St2 → Prop} {c n to q d : Nat} {last : Bool} {z0 : Int32} (hc : c < 8) (ht : to < 4) (hq : q ≤ 6) (hx : ((a14 1) <<< ((8 : Int32) &&& 31)) ||| (a14 2) = nI n) (h3 : a3 c = nI to) (h19 : a19 to = nI q)
    (h4 : a4 c = 1) (hd : z0 + 1 = nI d) (h8 : (a14 0) &&& 8 = if last = true then 8 else 0)
    (HA : a12 c = nI n → last = false → post (f0, f1, f2, a1, a2, a3, a4, a5, upd a6 c (nI d), a7, a8, a9, a10, a11, upd a12 c (nI n), a13, a14, a15, a16, a17, a18, a19, a20, a21, a22, a23, a24, a25, a26, a27, a28, upd a29 1 (a29 1 + 1)))
    (HB : ¬ (a12 c = nI n ∧ last = false) → q = 6 → post (f0, f1, f2, a1, a2, a3, a4, a5, upd a6 c (nI d), a7, a8, a9, a10, a11, upd a12 c (nI n), a13, a14, a15, a16, a17, a18, a19, a20, a21, a22, a23, a24, a25, a26, a27, a28, upd a29 2 (a29 2 + 1)))
    (HC : ¬ (a12 c = nI n ∧ last = false) → q ≠ 6 → post (f0, f1, f2, a1, a2, a3, a4, a5, upd a6 c (nI d), a7, a8, a9, a10, a11, a12, a13, a14, a15, a16, a17, a18, upd a19 to (nI (q + 1)), va_cpy a14 a20 0 (12 * (6 * to + q)) 12, a21, a22, a23, a24, a25, a26, a27, a28, a29)) : wX_admit_67 post (nI c) z0 (nI c) f0 f1 f2 a1 a2 a3 a4 a5 a6 a7 a8 a9 a10 a11 a12 a13 a14 a15 a16 a17 a18 a19 a20 a21 a22 a23 a24 a25 a26 a27 a28 a29 := by
  have e : (nI c).toNatClampNeg = c := nI_clamp (by omega)
  refine And.intro (pk_in c 8 hc) ⟨pk_in c 8 hc, nm_r (e' := upd a6 c (nI d)) (by rw [e, h4, hd]) ?_⟩
  cases last with
  | false =>
    refine br_t h8 (And.intro (pk_in c 8 hc) ?_)
    rw [e, hx]
    refine br_c (fun y => br_t rfl (cs_drop (w := 1) hc (by omega) hx (HA y rfl))) (fun y => ?_)
    exact cs_admit_129 hc ht hq hx h3 h19 (HB (fun t => y t.1)) (HC (fun t => y t.1))
  | true =>
    refine br_f (by rw [h8]; decide) (And.intro (pk_in c 8 hc) ?_)
    rw [e, hx]
    have nn : ¬ (a12 c = nI n ∧ true = false) := fun t => Bool.noConfusion t.2
    exact br_c (fun y => br_f (by decide) (cs_admit_129 hc ht hq hx h3 h19 (HB nn) (HC nn))) (fun y => cs_admit_129 hc ht hq hx h3 h19 (HB nn) (HC nn))
theorem cs_admit {post : St2 → Prop} {c n to q d T : Nat} {last : Bool} (hc : c < 8) (ht : to < 4) (hq : q ≤ 6) (h0 : (a14 0) >>> ((4 : Int32) &&& 31) = nI c) (hx : ((a14 1) <<< ((8 : Int32) &&& 31)) ||| (a14 2) = nI n) (h3 : a3 c = nI to) (h19 : a19 to = nI q)
    (h4 : a4 c = 1) (h5 : a5 c = 40) (h6 : a6 c = nI d) (hd : d ≤ T + 40) (hd2 : d < 900) (hT : T < 900) (h1 : f1 = nI T) (h8 : (a14 0) &&& 8 = if last = true then 8 else 0)
    (HA : a12 c = nI n → last = false → post (f0, f1, f2, a1, a2, a3, a4, a5, upd a6 c (nI (max T d + 1)), a7, a8, a9, a10, a11, upd a12 c (nI n), a13, a14, a15, a16, a17, a18, a19, a20, a21, a22, a23, a24, a25, a26, a27, a28, upd a29 1 (a29 1 + 1)))
    (HB : ¬ (a12 c = nI n ∧ last = false) → q = 6 → post (f0, f1, f2, a1, a2, a3, a4, a5, upd a6 c (nI (max T d + 1)), a7, a8, a9, a10, a11, upd a12 c (nI n), a13, a14, a15, a16, a17, a18, a19, a20, a21, a22, a23, a24, a25, a26, a27, a28, upd a29 2 (a29 2 + 1)))
    (HC : ¬ (a12 c = nI n ∧ last = false) → q ≠ 6 → post (f0, f1, f2, a1, a2, a3, a4, a5, upd a6 c (nI (max T d + 1)), a7, a8, a9, a10, a11, a12, a13, a14, a15, a16, a17, a18, upd a19 to (nI (q + 1)), va_cpy a14 a20 0 (12 * (6 * to + q)) 12, a21, a22, a23, a24, a25, a26, a27, a28, a29)) : wpX_admit post (f0, f1, f2, a1, a2, a3, a4, a5, a6, a7, a8, a9, a10, a11, a12, a13, a14, a15, a16, a17, a18, a19, a20, a21, a22, a23, a24, a25, a26, a27, a28, a29) := by
  have e : (nI c).toNatClampNeg = c := nI_clamp (by omega)
  subst h1
  refine nm_r h0 ⟨pk_in c 8 hc, pk_in c 8 hc, ?_⟩
  rw [e, h5, h6]
  refine br_t (cs_nlt hd (by omega) (by omega)) ⟨pk_in c 8 hc, ?_⟩
  refine pk_le T d (fun z => ⟨pk_in c 8 hc, ?_⟩) (fun z => ?_)
  · exact cs_admit_67 hc ht hq hx h3 h19 h4 (by rw [nI_1, Nat.max_eq_right z]) h8 HA HB HC
  · exact cs_admit_67 hc ht hq hx h3 h19 h4 (by rw [nI_1, Nat.max_eq_left (by omega)]) h8 HA HB HC
end
end
section
/-! ===== Int32 by its bits: bt x i ===== -/
def bt (x : Int32) (i : Nat) : Bool := x.toBitVec.getLsbD i
theorem b_ext {x y : Int32} (h : ∀ i, i < 32 → bt x i = bt y i) : x = y := Int32.toBitVec_inj.mp (BitVec.eq_of_getLsbD_eq (fun i hi => h i hi))
theorem b_or (x y : Int32) (i : Nat) : bt (x ||| y) i = (bt x i || bt y i) := by unfold bt; rw [Int32.toBitVec_or, BitVec.getLsbD_or]
theorem b_and (x y : Int32) (i : Nat) : bt (x &&& y) i = (bt x i && bt y i) := by unfold bt; rw [Int32.toBitVec_and, BitVec.getLsbD_and]
theorem b_xor (x y : Int32) (i : Nat) : bt (x ^^^ y) i = (bt x i ^^ bt y i) := by unfold bt; rw [Int32.toBitVec_xor, BitVec.getLsbD_xor]
theorem b_big {x : Int32} {i : Nat} (h : 32 ≤ i) : bt x i = false := BitVec.getLsbD_of_ge _ _ h
theorem b_255 (i : Nat) : bt 255 i = decide (i < 8) := by
  rcases Nat.lt_or_ge i 32 with h | h
  · exact (by decide +kernel : ∀ i, i < 32 → bt 255 i = decide (i < 8)) i h
  · rw [b_big h, decide_eq_false (by omega)]
theorem b_65535 (i : Nat) : bt 65535 i = decide (i < 16) := by
  rcases Nat.lt_or_ge i 32 with h | h
  · exact (by decide +kernel : ∀ i, i < 32 → bt 65535 i = decide (i < 16)) i h
  · rw [b_big h, decide_eq_false (by omega)]
theorem b_m1 : ∀ i, i < 32 → bt (-1) i = true := by decide +kernel
theorem b_0 (i : Nat) : bt 0 i = false := BitVec.getLsbD_zero
theorem s_l : ∀ n, n < 32 → ((nI n &&& 31).toBitVec.smod 32).toNat = n := by decide +kernel
theorem s_u : ∀ n, n < 32 → (((nI n).toUInt32 &&& Int32.toUInt32 31).toBitVec % 32).toNat = n := by decide +kernel
theorem b_shl (n : Nat) (hn : n < 32) (x : Int32) {i : Nat} (hi : i < 32) : bt (x <<< (nI n &&& 31)) i = (decide (n ≤ i) && bt x (i - n)) := by
  unfold bt
  rw [Int32.toBitVec_shiftLeft]
  show (x.toBitVec <<< ((nI n &&& 31).toBitVec.smod 32).toNat).getLsbD i = _
  rw [s_l n hn, BitVec.getLsbD_shiftLeft]
  rcases Nat.lt_or_ge i n with h | h
  · simp [h, Nat.not_le.mpr h]
  · simp [hi, h, Nat.not_lt.mpr h]
theorem b_ushr (n : Nat) (hn : n < 32) (x : Int32) (i : Nat) : bt ((x.toUInt32 >>> ((nI n).toUInt32 &&& Int32.toUInt32 31)).toInt32) i = bt x (n + i) := by
  show (x.toUInt32 >>> ((nI n).toUInt32 &&& Int32.toUInt32 31)).toBitVec.getLsbD i = x.toUInt32.toBitVec.getLsbD (n + i)
  rw [UInt32.toBitVec_shiftRight]
  show (x.toUInt32.toBitVec >>> (((nI n).toUInt32 &&& Int32.toUInt32 31).toBitVec % 32).toNat).getLsbD i = _
  rw [s_u n hn, BitVec.getLsbD_ushiftRight]
theorem b_sshr (n : Nat) (hn : n < 32) (x : Int32) {i : Nat} (hi : i < 32) : bt (x >>> (nI n &&& 31)) i = if n + i < 32 then bt x (n + i) else bt x 31 := by
  unfold bt
  rw [Int32.toBitVec_shiftRight]
  show (x.toBitVec.sshiftRight ((nI n &&& 31).toBitVec.smod 32).toNat).getLsbD i = _
  rw [s_l n hn, BitVec.getLsbD_sshiftRight, BitVec.msb_eq_getLsbD_last]
  simp [hi]
theorem b_shl8 (x : Int32) {i : Nat} (hi : i < 32) : bt (x <<< ((8 : Int32) &&& 31)) i = (decide (8 ≤ i) && bt x (i - 8)) := b_shl 8 (by omega) x hi
theorem b_shl16 (x : Int32) {i : Nat} (hi : i < 32) : bt (x <<< ((16 : Int32) &&& 31)) i = (decide (16 ≤ i) && bt x (i - 16)) := b_shl 16 (by omega) x hi
theorem b_shl24 (x : Int32) {i : Nat} (hi : i < 32) : bt (x <<< ((24 : Int32) &&& 31)) i = (decide (24 ≤ i) && bt x (i - 24)) := b_shl 24 (by omega) x hi
theorem b_sshr8 (x : Int32) {i : Nat} (hi : i < 32) : bt (x >>> ((8 : Int32) &&& 31)) i = if 8 + i < 32 then bt x (8 + i) else bt x 31 := b_sshr 8 (by omega) x hi

/-- a number out of its four bytes, the first i of them -/
def cs_sm (w : Int32) : Nat → Int32
  | 0 => 0
  | i + 1 => (cs_sm w i <<< ((8 : Int32) &&& 31)) ||| ((w.toUInt32 >>> ((nI (8 * (3 - i))).toUInt32 &&& Int32.toUInt32 31)).toInt32 &&& 255)
theorem cs_smb (w : Int32) : ∀ j, j ≤ 4 → ∀ i, i < 32 → bt (cs_sm w j) i = (decide (i < 8 * j) && bt w (8 * (4 - j) + i)) := by
  intro j
  induction j with
  | zero =>
    intro _ i _
    show bt 0 i = _
    rw [b_0, decide_eq_false (by omega)]
    rfl
  | succ j ih =>
    intro hj i hi
    show bt ((cs_sm w j <<< ((8 : Int32) &&& 31)) ||| ((w.toUInt32 >>> ((nI (8 * (3 - j))).toUInt32 &&& Int32.toUInt32 31)).toInt32 &&& 255)) i = _
    rw [b_or, b_shl8 _ hi, b_and, b_255, b_ushr _ (by omega)]
    rcases Nat.lt_or_ge i 8 with z | z
    · rw [decide_eq_false (by omega), decide_eq_true (p := i < 8) z, decide_eq_true (p := i < 8 * (j + 1)) (by omega), show 8 * (4 - (j + 1)) + i = 8 * (3 - j) + i by omega]
      simp
    · rw [ih (by omega) (i - 8) (by omega), decide_eq_true (p := 8 ≤ i) z, decide_eq_false (p := i < 8) (by omega), show 8 * (4 - (j + 1)) + i = 8 * (4 - j) + (i - 8) by omega]
      by_cases y : i - 8 < 8 * j
      · rw [decide_eq_true (p := i - 8 < 8 * j) y, decide_eq_true (p := i < 8 * (j + 1)) (by omega)]
        simp
      · rw [decide_eq_false (p := i - 8 < 8 * j) y, decide_eq_false (p := i < 8 * (j + 1)) (by omega)]
        simp
theorem cs_sm4 (w : Int32) : cs_sm w 4 = w := b_ext (fun i hi => by
  rw [cs_smb w 4 (by omega) i hi, decide_eq_true (by omega), show 8 * (4 - 4) + i = i by omega]
  simp)
theorem cs_t2 : ∀ c, c < 8 → ∀ k, k < 4 → (nI (16 * c + 0 + k) >>> ((4 : Int32) &&& 31) = nI c ∧ nI (16 * c + 0 + k) &&& 8 = 0 ∧ nI (16 * c + 0 + k) &&& 7 = nI k) ∧ (nI (16 * c + 8 + k) >>> ((4 : Int32) &&& 31) = nI c ∧ nI (16 * c + 8 + k) &&& 8 = 8 ∧ nI (16 * c + 8 + k) &&& 7 = nI k) := by decide +kernel
/-- what is read off a cell's first word -/
theorem cs_h0r {c k cl : Nat} (hc : c < 8) (hk : k < 4) : cs_h0 c k cl >>> ((4 : Int32) &&& 31) = nI c ∧ (cs_h0 c k cl &&& 8 = if decide (k + 1 = cl) = true then 8 else 0) ∧ cs_h0 c k cl &&& 7 = nI k := by
  unfold cs_h0
  by_cases y : k + 1 = cl
  · rw [if_pos y, if_pos (decide_eq_true y)]
    exact (cs_t2 c hc k hk).2
  · rw [if_neg y, if_neg (by simp [y])]
    exact (cs_t2 c hc k hk).1
theorem cs_nx (n : Nat) : ((0 : Int32) <<< ((8 : Int32) &&& 31)) ||| nI n = nI n := by
  rw [show (0 : Int32) <<< ((8 : Int32) &&& 31) = 0 by decide]
  exact Int32.zero_or
end
section
/-! isRight, takeIn, finish -/
section
variable {f0 f1 f2 : Int32} {a1 a2 a3 a4 a5 a6 a7 a8 a9 a10 a11 a12 a13 a14 a15 a16 a17 a18 a19 a20 a21 a22 a23 a24 a25 a26 a27 a28 a29 : Nat → Int32}
theorem cs_isRight_108 {post : Int32 → St2 → Prop} {c K : Nat} {w : Int32} (hc : c < 8) (hK : 1 ≤ K) (hK2 : K ≤ 4) (hw : f2 = w)
    (hk : ∀ i, i < 4 → a28 (32 * c + (8 * K - 4 + i)) = (w.toUInt32 >>> ((nI (8 * (3 - i))).toUInt32 &&& Int32.toUInt32 31)).toInt32 &&& 255)
    (H : post 1 (f0, f1, f2, a1, a2, a3, a4, a5, a6, a7, a8, a9, a10, a11, a12, a13, a14, a15, a16, a17, a18, a19, a20, a21, a22, a23, a24, a25, a26, a27, a28, a29)) : ∃ n, wX_isRight_108 post (nI (32 * c)) (nI (8 * K)) f0 f1 f2 a1 a2 a3 a4 a5 a6 a7 a8 a9 a10 a11 a12 a13 a14 a15 a16 a17 a18 a19 a20 a21 a22 a23 a24 a25 a26 a27 a28 a29 n 0 (nI (8 * K - 4)) :=
  cs_lp (fun n i (x : Int32) => wX_isRight_108 post (nI (32 * c)) (nI (8 * K)) f0 f1 f2 a1 a2 a3 a4 a5 a6 a7 a8 a9 a10 a11 a12 a13 a14 a15 a16 a17 a18 a19 a20 a21 a22 a23 a24 a25 a26 a27 a28 a29 n x (nI (8 * K - 4 + i))) (fun i => cs_sm w i) 4 0 rfl
    (fun n => pk_le (8 * K) (8 * K - 4 + 4) (fun _ => br_t (by rw [cs_sm4, hw]) H) (fun z => absurd z (by omega)))
    (fun n i hi hr => pk_le (8 * K) (8 * K - 4 + i) (fun z => absurd z (by omega)) (fun _ => by
      have e : nI (32 * c) + nI (8 * K - 4 + i) = nI (32 * c + (8 * K - 4 + i)) := nI_add _ _
      refine ⟨pk_in _ 256 (by omega) e, nm_r ?_ (nm_r (nI_1 _) hr)⟩
      rw [e, nI_clamp (by omega), hk i hi]
      rfl))
theorem cs_isRight_73 {post : Int32 → St2 → Prop} {c K : Nat} {P : Nat → Int32} (hc : c < 8) (hK : 1 ≤ K) (hK2 : K ≤ 4)
    (hk : ∀ i, i < 8 * K → a28 (32 * c + i) = cs_pw P (8 * K) i)
    (H : post 1 (f0, f1, cs_ck P (8 * K - 4), a1, a2, a3, a4, a5, a6, a7, a8, a9, a10, a11, a12, a13, a14, a15, a16, a17, a18, a19, a20, a21, a22, a23, a24, a25, a26, a27, a28, a29)) : ∃ n, wX_isRight_73 post (nI (32 * c)) (nI (8 * K)) n 0 f0 f1 (-1) a1 a2 a3 a4 a5 a6 a7 a8 a9 a10 a11 a12 a13 a14 a15 a16 a17 a18 a19 a20 a21 a22 a23 a24 a25 a26 a27 a28 a29 :=
  cs_lp (fun n i (x : Int32) => wX_isRight_73 post (nI (32 * c)) (nI (8 * K)) n (nI i) f0 f1 x a1 a2 a3 a4 a5 a6 a7 a8 a9 a10 a11 a12 a13 a14 a15 a16 a17 a18 a19 a20 a21 a22 a23 a24 a25 a26 a27 a28 a29) (fun i => cs_ck P i) (8 * K - 4) (-1) rfl
    (fun n => pk_le (8 * K - 4) (8 * K - 4) (fun _ => nm_r (pk_sub (b := 4) (by omega)) (cs_isRight_108 hc hK hK2 rfl (fun i hi => by
      rw [hk _ (by omega)]
      unfold cs_pw
      rw [if_neg (by omega), show 8 * K - 1 - (8 * K - 4 + i) = 3 - i by omega]) H)) (fun z => absurd z (by omega)) (pk_sub (b := 4) (by omega)))
    (fun n i hi hr => pk_le (8 * K - 4) i (fun z => absurd z (by omega)) (fun _ => by
      have e : nI (32 * c) + nI i = nI (32 * c + i) := nI_add _ _
      have e2 : cs_pw P (8 * K) i = P i := by
        unfold cs_pw
        rw [if_pos hi]
      refine ⟨pk_in _ 256 (by omega) e, ?_⟩
      rw [e, nI_clamp (by omega), hk i (by omega), e2]
      exact cs_feed (nm_r (nI_1 i) hr)) (pk_sub (b := 4) (by omega)))
theorem cs_isRight {post : Int32 → St2 → Prop} {c K L : Nat} {B : Nat → Int32} (hc : c < 8) (hL1 : 1 ≤ L) (hL : L ≤ 27) (hK : (L + 12) / 8 = K) (h25 : a25 c = nI K)
    (hk : ∀ i, i < 8 * K → a28 (32 * c + i) = cs_pw (cs_pb L B (8 * K)) (8 * K) i)
    (H : post 1 (f0, f1, cs_ck (cs_pb L B (8 * K)) (8 * K - 4), a1, a2, a3, a4, a5, a6, a7, a8, a9, a10, a11, a12, a13, a14, a15, a16, a17, a18, a19, a20, a21, a22, a23, a24, a25, fun _ => 0, a27, a28, a29)) : wpX_isRight post (f0, f1, f2, a1, a2, a3, a4, a5, a6, a7, a8, a9, a10, a11, a12, a13, a14, a15, a16, a17, a18, a19, a20, a21, a22, a23, a24, a25, fun _ => 0, a27, a28, a29) (nI c) := by
  have e : (nI c).toNatClampNeg = c := nI_clamp (by omega)
  have e2 : nI (32 * c) + nI (8 * K) - 5 = nI (32 * c + (8 * K - 5)) := by
    rw [nI_add]
    have h : nI (32 * c + 8 * K) - nI 5 = nI (32 * c + 8 * K - 5) := pk_sub (by omega)
    rw [show 32 * c + (8 * K - 5) = 32 * c + 8 * K - 5 by omega]
    exact h
  have e3 : a28 (32 * c + (8 * K - 5)) = nI L := by
    rw [hk _ (by omega)]
    unfold cs_pw
    rw [if_pos (by omega)]
    unfold cs_pb
    rw [if_neg (by omega), if_pos (by omega)]
  refine nm_r (pk_mul 32 c) ⟨pk_in c 8 hc, nm_r (e' := nI (8 * K)) (by rw [e, h25]; exact pk_mul 8 K) ⟨pk_in _ 256 (by omega) e2, nm_r (e' := nI L) (by rw [e2, nI_clamp (by omega), e3]) ⟨pk_in c 8 hc, br_t rfl ?_⟩⟩⟩
  refine pk_lt L 1 (fun z => absurd z (by omega)) (fun _ => pk_lt 27 L (fun z => absurd z (by omega)) (fun _ => cs_cellsOf (by omega) ⟨pk_in c 8 hc, br_t (by rw [e, h25, hK]) ?_⟩))
  exact cs_isRight_73 hc (by omega) (by omega) hk H
theorem cs_takeIn_52 {post : St2 → Prop} {c s f L m : Nat} (hc : c < 8) (hs : s < 4) (hf : f < 16) (hL : L ≤ 27) (h23 : a23 f = nI L) (h21 : a21 s = nI m)
    (H : post (f0, f1, f2, a1, a2, a3, a4, a5, a6, a7, a8, a9, a10, a11, a12, a13, a14, a15, a16, a17, a18, a19, a20, upd a21 s (nI (m + 1)), a22, a23, va_cpy a28 a24 (32 * c) (27 * f) L, a25, a26, a27, a28, a29)) : ∃ n, wX_takeIn_52 post (nI s) (nI f) (nI (32 * c)) f0 f1 f2 n 0 a1 a2 a3 a4 a5 a6 a7 a8 a9 a10 a11 a12 a13 a14 a15 a16 a17 a18 a19 a20 a21 a22 a23 a24 a25 a26 a27 a28 a29 := by
  have e : (nI f).toNatClampNeg = f := nI_clamp (by omega)
  refine cs_lp (fun n i a => wX_takeIn_52 post (nI s) (nI f) (nI (32 * c)) f0 f1 f2 n (nI i) a1 a2 a3 a4 a5 a6 a7 a8 a9 a10 a11 a12 a13 a14 a15 a16 a17 a18 a19 a20 a21 a22 a23 a a25 a26 a27 a28 a29) (fun i => va_cpy a28 a24 (32 * c) (27 * f) i) L a24 (cs_cp0 _ _ _ _) (fun n => ?_) (fun n i hi hw => ?_)
  · refine And.intro (pk_in f 16 hf) ?_
    rw [e, h23]
    exact pk_le L L (fun _ => ⟨pk_in s 4 hs, pk_in s 4 hs, nm_r (by rw [nI_clamp (by omega), h21, nI_1]) H⟩) (fun z => absurd z (by omega))
  · refine And.intro (pk_in f 16 hf) ?_
    rw [e, h23]
    have e2 : nI (32 * c) + nI i = nI (32 * c + i) := nI_add _ _
    have e3 : (27 : Int32) * nI f + nI i = nI (27 * f + i) := cs_ma 27 f i
    refine pk_le L i (fun z => absurd z (by omega)) (fun _ => ⟨pk_in _ 256 (by omega) e2, pk_in _ 432 (by omega) e3, nm_r ?_ (nm_r (nI_1 i) hw)⟩)
    rw [e2, e3, nI_clamp (by omega), nI_clamp (by omega)]
    exact cs_cp a28 a24 (32 * c) (27 * f) i
theorem cs_takeIn {post : St2 → Prop} {c s L m K : Nat} (hc : c < 8) (hs : s < 4) (hm : m < 4) (hL : L ≤ 27) (hK : 1 ≤ K) (hK2 : K ≤ 4) (h21 : a21 s = nI m) (h25 : a25 c = nI K) (h28 : a28 (32 * c + (8 * K - 5)) = nI L)
    (H : post (f0, f1, f2, a1, a2, a3, a4, a5, a6, a7, a8, a9, a10, a11, a12, a13, a14, a15, a16, a17, a18, a19, a20, upd a21 s (nI (m + 1)), upd a22 (4 * s + m) (nI c), upd a23 (4 * s + m) (nI L), va_cpy a28 a24 (32 * c) (27 * (4 * s + m)) L, a25, a26, a27, a28, a29)) : wpX_takeIn post (f0, f1, f2, a1, a2, a3, a4, a5, a6, a7, a8, a9, a10, a11, a12, a13, a14, a15, a16, a17, a18, a19, a20, a21, a22, a23, a24, a25, a26, a27, a28, a29) (nI c) (nI s) := by
  have e : (nI c).toNatClampNeg = c := nI_clamp (by omega)
  have e2 : nI (32 * c) + 8 * nI K - 5 = nI (32 * c + (8 * K - 5)) := by
    have h0 : (8 : Int32) * nI K = nI (8 * K) := pk_mul 8 K
    have h : nI (32 * c + 8 * K) - nI 5 = nI (32 * c + 8 * K - 5) := pk_sub (by omega)
    rw [h0, nI_add, show 32 * c + (8 * K - 5) = 32 * c + 8 * K - 5 by omega]
    exact h
  refine And.intro (pk_in s 4 hs) (nm_r (e' := nI (4 * s + m)) (by rw [nI_clamp (by omega), h21]; exact cs_ma 4 s m) (nm_r (pk_mul 32 c) ⟨pk_in (4 * s + m) 16 (by omega), nm_r (e' := upd a22 (4 * s + m) (nI c)) (by rw [nI_clamp (by omega)]) ⟨pk_in c 8 hc, ?_⟩⟩))
  rw [e, h25]
  exact ⟨pk_in _ 256 (by omega) e2, pk_in (4 * s + m) 16 (by omega), nm_r (e' := upd a23 (4 * s + m) (nI L)) (by rw [e2, nI_clamp (by omega), nI_clamp (by omega), h28]) (cs_takeIn_52 hc hs (by omega) hL pk_us h21 H)⟩
theorem cs_forget0 {post : St2 → Prop} {c : Nat} (hc : c < 8) (H : post (f0, f1, f2, a1, a2, a3, a4, a5, a6, a7, a8, a9, a10, a11, a12, a13, a14, a15, a16, a17, a18, a19, a20, a21, a22, a23, a24, upd a25 c 0, fun _ => 0, a27, a28, a29)) : wpX_forget post (f0, f1, f2, a1, a2, a3, a4, a5, a6, a7, a8, a9, a10, a11, a12, a13, a14, a15, a16, a17, a18, a19, a20, a21, a22, a23, a24, a25, fun _ => 0, a27, a28, a29) (nI c) :=
  cs_forget hc (by rw [cs_u0]; exact H)
theorem cs_finish {post : St2 → Prop} {c s K L m : Nat} {B : Nat → Int32} (hc : c < 8) (hs : s < 4) (hm : m ≤ 4) (hL1 : 1 ≤ L) (hL : L ≤ 27) (hK : (L + 12) / 8 = K) (h25 : a25 c = nI K) (h21 : a21 s = nI m)
    (hk : ∀ i, i < 8 * K → a28 (32 * c + i) = cs_pw (cs_pb L B (8 * K)) (8 * K) i)
    (Hm : m = 4 → post (f0, f1, cs_ck (cs_pb L B (8 * K)) (8 * K - 4), a1, a2, a3, a4, a5, a6, a7, a8, a9, a10, a11, a12, a13, a14, a15, a16, a17, a18, a19, a20, a21, a22, a23, a24, upd a25 c 0, fun _ => 0, a27, a28, upd a29 6 (a29 6 + 1)))
    (Hg : m ≠ 4 → post (f0, f1, cs_ck (cs_pb L B (8 * K)) (8 * K - 4), a1, a2, a3, a4, a5, a6, a7, a8, a9, a10, a11, a12, a13, a14, a15, a16, a17, a18, a19, a20, upd a21 s (nI (m + 1)), upd a22 (4 * s + m) (nI c), upd a23 (4 * s + m) (nI L), va_cpy a28 a24 (32 * c) (27 * (4 * s + m)) L, upd a25 c 0, fun _ => 0, a27, a28, upd a29 4 (a29 4 + 1))) :
    wpX_finish post (f0, f1, f2, a1, a2, a3, a4, a5, a6, a7, a8, a9, a10, a11, a12, a13, a14, a15, a16, a17, a18, a19, a20, a21, a22, a23, a24, a25, fun _ => 0, a27, a28, a29) (nI c) (nI s) := by
  have e3 : a28 (32 * c + (8 * K - 5)) = nI L := by
    rw [hk _ (by omega)]
    unfold cs_pw
    rw [if_pos (by omega)]
    unfold cs_pb
    rw [if_neg (by omega), if_pos (by omega)]
  unfold wpX_finish
  refine cs_isRight (L := L) (B := B) (K := K) hc hL1 hL hK h25 hk ?_
  refine br_f (by decide) (And.intro (pk_in s 4 hs) ?_)
  rw [nI_clamp (show s < 2 ^ 31 by omega), h21]
  refine pk_eq m 4 (fun z => nm_e (cs_forget0 hc (Hm z))) (fun z => nm_e (cs_takeIn hc hs (by omega) hL (by omega) (by omega) h21 h25 e3 ?_))
  exact cs_forget0 hc (Hg z)
end
end
section
/-! comeIn, deliverTo: the cell follows what is kept -/
section
variable {f0 f1 f2 : Int32} {a1 a2 a3 a4 a5 a6 a7 a8 a9 a10 a11 a12 a13 a14 a15 a16 a17 a18 a19 a20 a21 a22 a23 a24 a25 a26 a27 a28 a29 : Nat → Int32}
/-- what is kept, with one cell more -/
def cs_kp (a : Nat → Int32) (c k cl : Nat) (P : Nat → Int32) (b : Nat → Int32) : Prop := ∀ j, b j = if 8 * (4 * c + k) ≤ j ∧ j < 8 * (4 * c + k) + 8 then cs_pw P (8 * cl) (j - 32 * c) else a j
theorem cs_comeIn_153 {post : St2 → Prop} {c s n k cl L m : Nat} {B : Nat → Int32} (hc : c < 8) (hs : s < 4) (hk : k < cl) (hcl : (L + 12) / 8 = cl) (hL1 : 1 ≤ L) (hL : L ≤ 27) (hm : m ≤ 4)
    (hw : ∀ i, i < 12 → a14 i = cs_cw c n k cl (cs_pb L B (8 * cl)) i) (h25 : a25 c = nI k) (h21 : a21 s = nI m)
    (hkp : ∀ i, i < 8 * (k + 1) → a28 (32 * c + i) = cs_pw (cs_pb L B (8 * cl)) (8 * cl) i)
    (Hn : k + 1 ≠ cl → post (f0, f1, f2, a1, a2, a3, a4, a5, a6, a7, a8, a9, a10, a11, a12, a13, a14, a15, a16, a17, a18, a19, a20, a21, a22, a23, a24, upd a25 c (nI (k + 1)), fun _ => 0, a27, a28, a29))
    (Hm : k + 1 = cl → m = 4 → post (f0, f1, cs_ck (cs_pb L B (8 * cl)) (8 * cl - 4), a1, a2, a3, a4, a5, a6, a7, a8, a9, a10, a11, a12, a13, a14, a15, a16, a17, a18, a19, a20, a21, a22, a23, a24, upd (upd a25 c (nI (k + 1))) c 0, fun _ => 0, a27, a28, upd a29 6 (a29 6 + 1)))
    (Hg : k + 1 = cl → m ≠ 4 → post (f0, f1, cs_ck (cs_pb L B (8 * cl)) (8 * cl - 4), a1, a2, a3, a4, a5, a6, a7, a8, a9, a10, a11, a12, a13, a14, a15, a16, a17, a18, a19, a20, upd a21 s (nI (m + 1)), upd a22 (4 * s + m) (nI c), upd a23 (4 * s + m) (nI L), va_cpy a28 a24 (32 * c) (27 * (4 * s + m)) L, upd (upd a25 c (nI (k + 1))) c 0, fun _ => 0, a27, a28, upd a29 4 (a29 4 + 1))) :
    wX_comeIn_153 post (nI s) (nI c) f0 f1 f2 a1 a2 a3 a4 a5 a6 a7 a8 a9 a10 a11 a12 a13 a14 a15 a16 a17 a18 a19 a20 a21 a22 a23 a24 a25 (fun _ => 0) a27 a28 a29 := by
  have e : (nI c).toNatClampNeg = c := nI_clamp (by omega)
  have w0 : a14 0 = cs_h0 c k cl := hw 0 (by omega)
  have hr := cs_h0r (cl := cl) hc (show k < 4 by omega)
  refine And.intro (pk_in c 8 hc) ⟨pk_in c 8 hc, ?_⟩
  rw [e, h25]
  refine pk_le 4 k (fun z => absurd z (by omega)) (fun _ => And.intro (pk_in c 8 hc) (nm_r (e' := upd a25 c (nI (k + 1))) (by rw [e, nI_1]) ?_))
  by_cases y : k + 1 = cl
  · subst y
    refine br_f (by rw [w0, hr.2.1, if_pos (by simp)]; decide) (cs_finish (L := L) (B := B) hc hs hm hL1 hL hcl pk_us h21 hkp (Hm rfl) (Hg rfl))
  · exact br_t (by rw [w0, hr.2.1, if_neg (by simp [y])]) (Hn y)
theorem cs_comeIn {post : St2 → Prop} {c s n k cl L m : Nat} {B : Nat → Int32} (hc : c < 8) (hs : s < 4) (hn : n < 256) (hk : k < cl) (hcl : (L + 12) / 8 = cl) (hL1 : 1 ≤ L) (hL : L ≤ 27) (hm : m ≤ 4)
    (hw : ∀ i, i < 12 → a14 i = cs_cw c n k cl (cs_pb L B (8 * cl)) i) (h25 : a25 c = nI k) (h27 : k = 0 ∨ a27 c = nI n) (h21 : a21 s = nI m)
    (hkp : ∀ i, i < 8 * k → a28 (32 * c + i) = cs_pw (cs_pb L B (8 * cl)) (8 * cl) i)
    (Hn : ∀ b, cs_kp a28 c k cl (cs_pb L B (8 * cl)) b → k + 1 ≠ cl → post (f0, f1, f2, a1, a2, a3, a4, a5, a6, a7, a8, a9, a10, a11, a12, a13, a14, a15, a16, a17, a18, a19, a20, a21, a22, a23, a24, upd a25 c (nI (k + 1)), fun _ => 0, upd a27 c (nI n), b, a29))
    (Hm : ∀ b, cs_kp a28 c k cl (cs_pb L B (8 * cl)) b → k + 1 = cl → m = 4 → post (f0, f1, cs_ck (cs_pb L B (8 * cl)) (8 * cl - 4), a1, a2, a3, a4, a5, a6, a7, a8, a9, a10, a11, a12, a13, a14, a15, a16, a17, a18, a19, a20, a21, a22, a23, a24, upd (upd a25 c (nI (k + 1))) c 0, fun _ => 0, upd a27 c (nI n), b, upd a29 6 (a29 6 + 1)))
    (Hg : ∀ b, cs_kp a28 c k cl (cs_pb L B (8 * cl)) b → k + 1 = cl → m ≠ 4 → post (f0, f1, cs_ck (cs_pb L B (8 * cl)) (8 * cl - 4), a1, a2, a3, a4, a5, a6, a7, a8, a9, a10, a11, a12, a13, a14, a15, a16, a17, a18, a19, a20, upd a21 s (nI (m + 1)), upd a22 (4 * s + m) (nI c), upd a23 (4 * s + m) (nI L), va_cpy b a24 (32 * c) (27 * (4 * s + m)) L, upd (upd a25 c (nI (k + 1))) c 0, fun _ => 0, upd a27 c (nI n), b, upd a29 4 (a29 4 + 1))) :
    wpX_comeIn post (f0, f1, f2, a1, a2, a3, a4, a5, a6, a7, a8, a9, a10, a11, a12, a13, a14, a15, a16, a17, a18, a19, a20, a21, a22, a23, a24, a25, fun _ => 0, a27, a28, a29) (nI s) := by
  have e : (nI c).toNatClampNeg = c := nI_clamp (by omega)
  have w0 : a14 0 = cs_h0 c k cl := hw 0 (by omega)
  have w1 : a14 1 = 0 := hw 1 (by omega)
  have w2 : a14 2 = nI n := hw 2 (by omega)
  have hr := cs_h0r (cl := cl) hc (show k < 4 by omega)
  have KP : cs_kp a28 c k cl (cs_pb L B (8 * cl)) (va_cpy a14 a28 4 (8 * (4 * c + k)) 8) := by
    intro j
    by_cases y : 8 * (4 * c + k) ≤ j ∧ j < 8 * (4 * c + k) + 8
    · rw [if_pos y, pk_cpy_in y.1 y.2, hw _ (by omega)]
      unfold cs_cw
      rw [if_neg (by omega), if_neg (by omega), if_neg (by omega), if_neg (by omega), show 8 * k + (4 + (j - 8 * (4 * c + k)) - 4) = j - 32 * c by omega]
    · rw [if_neg y, pk_cpy_out (by omega)]
  have hkp' : ∀ i, i < 8 * (k + 1) → va_cpy a14 a28 4 (8 * (4 * c + k)) 8 (32 * c + i) = cs_pw (cs_pb L B (8 * cl)) (8 * cl) i := by
    intro i hi
    rw [KP]
    by_cases y : i < 8 * k
    · rw [if_neg (by omega)]
      exact hkp i y
    · rw [if_pos (by omega), show 32 * c + i - 32 * c = i by omega]
  have go : wX_comeIn_63 post (nI s) (nI c) (nI n) (nI k) f0 f1 f2 a1 a2 a3 a4 a5 a6 a7 a8 a9 a10 a11 a12 a13 a14 a15 a16 a17 a18 a19 a20 a21 a22 a23 a24 a25 (fun _ => 0) a27 a28 a29 := by
    refine And.intro (pk_in c 8 hc) (br_t rfl (br_f (by decide) (And.intro (pk_in c 8 hc) (nm_r (e' := fun _ => 0) (cs_u0 _) ⟨pk_in c 8 hc, nm_r (e' := upd a27 c (nI n)) (by rw [e]) ⟨pk_in c 8 hc, br_t rfl ?_⟩⟩))))
    refine cs_lp (fun n' i a => wX_comeIn_114 post (nI s) (nI c) (nI k) f0 f1 f2 n' (nI i) a1 a2 a3 a4 a5 a6 a7 a8 a9 a10 a11 a12 a13 a14 a15 a16 a17 a18 a19 a20 a21 a22 a23 a24 a25 (fun _ => 0) (upd a27 c (nI n)) a a29) (fun i => va_cpy a14 a28 4 (8 * (4 * c + k)) i) 8 a28 (cs_cp0 _ _ _ _) (fun n' => ?_) (fun n' i hi hr' => ?_)
    · exact pk_le 8 8 (fun _ => cs_comeIn_153 hc hs hk hcl hL1 hL hm hw h25 h21 hkp' (Hn _ KP) (Hm _ KP) (Hg _ KP)) (fun z => absurd z (by omega))
    · have e2 : (8 : Int32) * (4 * nI c + nI k) + nI i = nI (8 * (4 * c + k) + i) := cs_mma 8 4 c k i
      have e3 : (4 : Int32) + nI i = nI (4 + i) := nI_add 4 i
      refine pk_le 8 i (fun z => absurd z (by omega)) (fun _ => ⟨pk_in _ 12 (by omega) e3, pk_in _ 256 (by omega) e2, nm_r ?_ (nm_r (nI_1 i) hr')⟩)
      rw [e2, e3, nI_clamp (by omega), nI_clamp (by omega)]
      exact cs_cp a14 a28 4 (8 * (4 * c + k)) i
  refine nm_r (e' := nI c) (by rw [w0]; exact hr.1) (nm_r (e' := nI n) (by rw [w1, w2]; exact cs_nx n) (nm_r (e' := nI k) (by rw [w0]; exact hr.2.2) ⟨pk_in c 8 hc, br_t (by rw [e, h25]) ?_⟩))
  refine pk_eq k 0 (fun _ => go) (fun z => ⟨pk_in c 8 hc, br_t ?_ go⟩)
  rw [e]
  exact h27.resolve_left z
theorem cs_deliverTo0 {post : St2 → Prop} {s : Nat} (hs : s < 4) (h19 : a19 s = 0) (H : post (f0, f1, f2, a1, a2, a3, a4, a5, a6, a7, a8, a9, a10, a11, a12, a13, a14, a15, a16, a17, a18, a19, a20, a21, a22, a23, a24, a25, a26, a27, a28, a29)) : wpX_deliverTo post (f0, f1, f2, a1, a2, a3, a4, a5, a6, a7, a8, a9, a10, a11, a12, a13, a14, a15, a16, a17, a18, a19, a20, a21, a22, a23, a24, a25, a26, a27, a28, a29) (nI s) :=
  And.intro (pk_in s 4 hs) (br_t (by rw [nI_clamp (by omega)]; exact h19) H)
theorem cs_deliverTo {post : St2 → Prop} {c s n k cl L m q : Nat} {B : Nat → Int32} (hc : c < 8) (hs : s < 4) (hn : n < 256) (hk : k < cl) (hcl : (L + 12) / 8 = cl) (hL1 : 1 ≤ L) (hL : L ≤ 27) (hm : m ≤ 4)
    (hq : q < 6) (h19 : a19 s = nI (q + 1))
    (hw : ∀ i, i < 12 → a20 (72 * s + i) = cs_cw c n k cl (cs_pb L B (8 * cl)) i) (h25 : a25 c = nI k) (h27 : k = 0 ∨ a27 c = nI n) (h21 : a21 s = nI m)
    (hkp : ∀ i, i < 8 * k → a28 (32 * c + i) = cs_pw (cs_pb L B (8 * cl)) (8 * cl) i)
    (Hn : ∀ d b, cs_kp a28 c k cl (cs_pb L B (8 * cl)) b → k + 1 ≠ cl → post (f0, f1, f2, a1, a2, a3, a4, a5, a6, a7, a8, a9, a10, a11, a12, a13, d, a15, a16, a17, a18, upd a19 s (nI q), cs_sh a20 (72 * s) 12 (12 * q), a21, a22, a23, a24, upd a25 c (nI (k + 1)), fun _ => 0, upd a27 c (nI n), b, a29))
    (Hm : ∀ d b, cs_kp a28 c k cl (cs_pb L B (8 * cl)) b → k + 1 = cl → m = 4 → post (f0, f1, cs_ck (cs_pb L B (8 * cl)) (8 * cl - 4), a1, a2, a3, a4, a5, a6, a7, a8, a9, a10, a11, a12, a13, d, a15, a16, a17, a18, upd a19 s (nI q), cs_sh a20 (72 * s) 12 (12 * q), a21, a22, a23, a24, upd (upd a25 c (nI (k + 1))) c 0, fun _ => 0, upd a27 c (nI n), b, upd a29 6 (a29 6 + 1)))
    (Hg : ∀ d b, cs_kp a28 c k cl (cs_pb L B (8 * cl)) b → k + 1 = cl → m ≠ 4 → post (f0, f1, cs_ck (cs_pb L B (8 * cl)) (8 * cl - 4), a1, a2, a3, a4, a5, a6, a7, a8, a9, a10, a11, a12, a13, d, a15, a16, a17, a18, upd a19 s (nI q), cs_sh a20 (72 * s) 12 (12 * q), upd a21 s (nI (m + 1)), upd a22 (4 * s + m) (nI c), upd a23 (4 * s + m) (nI L), va_cpy b a24 (32 * c) (27 * (4 * s + m)) L, upd (upd a25 c (nI (k + 1))) c 0, fun _ => 0, upd a27 c (nI n), b, upd a29 4 (a29 4 + 1))) :
    wpX_deliverTo post (f0, f1, f2, a1, a2, a3, a4, a5, a6, a7, a8, a9, a10, a11, a12, a13, a14, a15, a16, a17, a18, a19, a20, a21, a22, a23, a24, a25, fun _ => 0, a27, a28, a29) (nI s) := by
  have e : (nI s).toNatClampNeg = s := nI_clamp (by omega)
  have hw' : ∀ i, i < 12 → va_cpy a20 a14 (72 * s) 0 12 i = cs_cw c n k cl (cs_pb L B (8 * cl)) i := by
    intro i hi
    rw [pk_cpy_in (by omega) (by omega)]
    exact hw i hi
  refine And.intro (pk_in s 4 hs) (br_f (by rw [e, h19]; exact nI_ne0 (by omega) (by omega)) (nm_r (e' := nI (72 * s)) (pk_mul 72 s) ?_))
  refine cs_lp (fun n' i a => wX_deliverTo_17 post (nI s) (nI (72 * s)) f0 f1 f2 n' (nI i) a1 a2 a3 a4 a5 a6 a7 a8 a9 a10 a11 a12 a13 a a15 a16 a17 a18 a19 a20 a21 a22 a23 a24 a25 (fun _ => 0) a27 a28 a29) (fun i => va_cpy a20 a14 (72 * s) 0 i) 12 a14 (cs_cp0 _ _ _ _) (fun n' => ?_) (fun n' i hi hr => ?_)
  · refine pk_le 12 12 (fun _ => ⟨pk_in s 4 hs, pk_in s 4 hs, nm_r (e' := upd a19 s (nI q)) (by rw [e, h19, nI_pred]) ?_⟩) (fun z => absurd z (by omega))
    have e3 : nI (72 * s) + 12 * upd a19 s (nI q) (nI s).toNatClampNeg = nI (72 * s + 12 * q) := by
      rw [e, pk_us]
      have h : (12 : Int32) * nI q = nI (12 * q) := pk_mul 12 q
      rw [h, nI_add]
    refine cs_lp (fun n' i a => wX_deliverTo_55 post (nI s) (nI (72 * s)) f0 f1 f2 n' (nI (72 * s + i)) a1 a2 a3 a4 a5 a6 a7 a8 a9 a10 a11 a12 a13 (va_cpy a20 a14 (72 * s) 0 12) a15 a16 a17 a18 (upd a19 s (nI q)) a a21 a22 a23 a24 a25 (fun _ => 0) a27 a28 a29) (fun i => cs_sh a20 (72 * s) 12 i) (12 * q) a20 (cs_sh0 _ _ _) (fun n' => ?_) (fun n' i hi hr => ?_)
    · refine And.intro (pk_in s 4 hs) (pk_le (72 * s + 12 * q) (72 * s + 12 * q) (fun _ => ?_) (fun z => absurd z (by omega)) e3)
      exact cs_comeIn hc hs hn hk hcl hL1 hL hm hw' h25 h27 h21 hkp (fun b => Hn _ b) (fun b => Hm _ b) (fun b => Hg _ b)
    · have e4 : nI (72 * s + i) + 12 = nI (72 * s + i + 12) := nI_add _ 12
      refine And.intro (pk_in s 4 hs) (pk_le (72 * s + 12 * q) (72 * s + i) (fun z => absurd z (by omega)) (fun _ => ⟨pk_in _ 288 (by omega) e4, pk_in (72 * s + i) 288 (by omega), nm_r ?_ (nm_r (nI_1 _) hr)⟩) e3)
      rw [e4, nI_clamp (by omega), nI_clamp (by omega)]
      exact cs_shs a20 (72 * s) 12 i (by omega)
  · have e2 : nI (72 * s) + nI i = nI (72 * s + i) := nI_add _ _
    refine pk_le 12 i (fun z => absurd z (by omega)) (fun _ => ⟨pk_in _ 288 (by omega) e2, pk_in i 12 hi, nm_r ?_ (nm_r (nI_1 i) hr)⟩)
    rw [e2, nI_clamp (by omega), nI_clamp (by omega)]
    have g := cs_cp a20 a14 (72 * s) 0 i
    rw [Nat.zero_add] at g
    exact g
end
end
section
/-! the picture: the machine without bytes; the relation -/
/-- clock; per circuit: in use, from, due, frames, next cell, number, spoiled number; last sent by a station; queue (circuit, number, cell); inbox (circuit, number); per circuit: kept, kept number; counts -/
abbrev cs_M : Type := Nat × List Nat × List Nat × List Nat × List Nat × List Nat × List Nat × List Nat × List Nat × List (Nat × Nat × Nat) × List (Nat × Nat) × List Nat × List Nat × List Nat
/-- how many cells a frame of a circuit has -/
def cs_cl (c : Nat) : Nat := if c < 4 then 4 else 1
def cs_adm (c n k : Nat) (last : Bool) : cs_M → cs_M
  | (T, op, fm, du, fr, nx, nu, sp, ls, q, ib, kc, kn, ct) =>
    if sp.getD c 1 = n + 1 ∧ last = false then (T, op, fm, du.set c (max T (du.getD c 0) + 1), fr, nx, nu, sp.set c (n + 1), ls, q, ib, kc, kn, ct.set 1 (ct.getD 1 0 + 1))
    else if q.length = 6 then (T, op, fm, du.set c (max T (du.getD c 0) + 1), fr, nx, nu, sp.set c (n + 1), ls, q, ib, kc, kn, ct.set 2 (ct.getD 2 0 + 1))
    else (T, op, fm, du.set c (max T (du.getD c 0) + 1), fr, nx, nu, sp, ls, q ++ [(c, n, k)], ib, kc, kn, ct)
def cs_snc (s c : Nat) : cs_M → cs_M
  | (T, op, fm, du, fr, nx, nu, sp, ls, q, ib, kc, kn, ct) =>
    if nx.getD c 0 + 1 = cs_cl c then cs_adm c (nu.getD c 0) (nx.getD c 0) true (T, op, fm, du, fr.set c (fr.getD c 0 - 1), (nx.set c (nx.getD c 0 + 1)).set c 0, nu.set c (nu.getD c 0 + 1), sp, ls.set s c, q, ib, kc, kn, ct)
    else cs_adm c (nu.getD c 0) (nx.getD c 0) false (T, op, fm, du, fr, nx.set c (nx.getD c 0 + 1), nu, sp, ls.set s c, q, ib, kc, kn, ct)
def cs_send (s : Nat) : cs_M → cs_M
  | (T, op, fm, du, fr, nx, nu, sp, ls, q, ib, kc, kn, ct) =>
    match cs_nf (cs_g op fm fr s) (ls.getD s 0) 8 1 with
    | none => (T, op, fm, du, fr, nx, nu, sp, ls, q, ib, kc, kn, ct)
    | some c => cs_snc s c (T, op, fm, du, fr, nx, nu, sp, ls, q, ib, kc, kn, ct)
def cs_del : cs_M → cs_M
  | (T, op, fm, du, fr, nx, nu, sp, ls, q, ib, kc, kn, ct) =>
    match q with
    | [] => (T, op, fm, du, fr, nx, nu, sp, ls, [], ib, kc, kn, ct)
    | (c, n, k) :: q' =>
      if k + 1 = cs_cl c then
        (if ib.length = 4 then (T, op, fm, du, fr, nx, nu, sp, ls, q', ib, (kc.set c (k + 1)).set c 0, kn.set c n, ct.set 6 (ct.getD 6 0 + 1))
        else (T, op, fm, du, fr, nx, nu, sp, ls, q', ib ++ [(c, n)], (kc.set c (k + 1)).set c 0, kn.set c n, ct.set 4 (ct.getD 4 0 + 1)))
      else (T, op, fm, du, fr, nx, nu, sp, ls, q', ib, kc.set c (k + 1), kn.set c n, ct)
def cs_clk : cs_M → cs_M
  | (T, op, fm, du, fr, nx, nu, sp, ls, q, ib, kc, kn, ct) => (T + 1, op, fm, du, fr, nx, nu, sp, ls, q, ib, kc, kn, ct)
def cs_snd : Nat → cs_M → cs_M
  | 0, M => M
  | i + 1, M => cs_send i (cs_snd i M)
def cs_tick (M : cs_M) : cs_M := cs_del (cs_snd 4 (cs_clk M))
def cs_tk : Nat → cs_M → cs_M
  | 0, M => M
  | i + 1, M => cs_tick (cs_tk i M)
/-- in bounds -/
def cs_wf : cs_M → Bool
  | (T, op, fm, du, fr, nx, nu, sp, ls, q, ib, kc, kn, ct) => decide (T < 800 ∧ op.length = 8 ∧ du.length = 8 ∧ fr.length = 8 ∧ nx.length = 8 ∧ nu.length = 8 ∧ sp.length = 8 ∧ ls.length = 4 ∧ kc.length = 8 ∧ kn.length = 8 ∧ ct.length = 7 ∧ q.length ≤ 6 ∧ ib.length ≤ 4)
    && ((List.range 8).all (fun c => decide (op.getD c 0 < 100 ∧ fm.getD c 0 < 100 ∧ du.getD c 0 ≤ T + 40 ∧ fr.getD c 0 ≤ 2 ∧ nx.getD c 0 < cs_cl c ∧ nu.getD c 0 < 200 ∧ sp.getD c 1 < 1000 ∧ kc.getD c 0 ≤ 4))
    && (List.range 4).all (fun s => decide (ls.getD s 0 < 8)))
/-- the first cell of the queue follows what is kept -/
def cs_okd : cs_M → Bool
  | (T, op, fm, du, fr, nx, nu, sp, ls, q, ib, kc, kn, ct) => decide (kc.length = 8 ∧ kn.length = 8 ∧ ct.length = 7 ∧ q.length ≤ 6 ∧ ib.length ≤ 4)
    && ((List.range 8).all (fun c => decide (kc.getD c 0 ≤ 4))
    && (match q with
      | [] => true
      | (c, n, k) :: _ => decide (c < 8 ∧ n < 200 ∧ k < cs_cl c ∧ kc.getD c 0 = k ∧ (k = 0 ∨ kn.getD c 0 = n))))
theorem cs_ra {n : Nat} {P : Nat → Bool} (h : (List.range n).all P = true) : ∀ i, i < n → P i = true := fun i hi => List.all_eq_true.mp h i (List.mem_range.mpr hi)
theorem cs_wfe {T : Nat} {op fm du fr nx nu sp ls : List Nat} {q : List (Nat × Nat × Nat)} {ib : List (Nat × Nat)} {kc kn ct : List Nat} (h : cs_wf (T, op, fm, du, fr, nx, nu, sp, ls, q, ib, kc, kn, ct) = true) :
    (T < 800 ∧ op.length = 8 ∧ du.length = 8 ∧ fr.length = 8 ∧ nx.length = 8 ∧ nu.length = 8 ∧ sp.length = 8 ∧ ls.length = 4 ∧ kc.length = 8 ∧ kn.length = 8 ∧ ct.length = 7 ∧ q.length ≤ 6 ∧ ib.length ≤ 4)
    ∧ (∀ c, c < 8 → op.getD c 0 < 100 ∧ fm.getD c 0 < 100 ∧ du.getD c 0 ≤ T + 40 ∧ fr.getD c 0 ≤ 2 ∧ nx.getD c 0 < cs_cl c ∧ nu.getD c 0 < 200 ∧ sp.getD c 1 < 1000 ∧ kc.getD c 0 ≤ 4)
    ∧ (∀ s, s < 4 → ls.getD s 0 < 8) := by
  unfold cs_wf at h
  rw [Bool.and_eq_true, Bool.and_eq_true] at h
  exact ⟨of_decide_eq_true h.1, fun c hc => of_decide_eq_true (cs_ra h.2.1 c hc), fun s hs => of_decide_eq_true (cs_ra h.2.2 s hs)⟩
theorem cs_okde {T : Nat} {op fm du fr nx nu sp ls : List Nat} {q : List (Nat × Nat × Nat)} {ib : List (Nat × Nat)} {kc kn ct : List Nat} (h : cs_okd (T, op, fm, du, fr, nx, nu, sp, ls, q, ib, kc, kn, ct) = true) :
    (kc.length = 8 ∧ kn.length = 8 ∧ ct.length = 7 ∧ q.length ≤ 6 ∧ ib.length ≤ 4) ∧ (∀ c, c < 8 → kc.getD c 0 ≤ 4)
    ∧ ∀ c n k q', q = (c, n, k) :: q' → c < 8 ∧ n < 200 ∧ k < cs_cl c ∧ kc.getD c 0 = k ∧ (k = 0 ∨ kn.getD c 0 = n) := by
  unfold cs_okd at h
  rw [Bool.and_eq_true, Bool.and_eq_true] at h
  refine ⟨of_decide_eq_true h.1, fun c hc => of_decide_eq_true (cs_ra h.2.1 c hc), fun c n k q' e => ?_⟩
  have h2 := h.2.2
  subst e
  exact of_decide_eq_true h2
section
variable (to : Nat) (FL : Nat → Nat → Nat) (FB : Nat → Nat → Nat → Int32)
/-- the frame with what is put behind it -/
def cs_pp (c n : Nat) : Nat → Int32 := cs_pb (FL c n) (FB c n) (8 * cs_cl c)
def cs_dO (op : List Nat) (a3 a4 a5 : Nat → Int32) : Prop := ∀ c, c < 8 → op.getD c 0 ≠ 0 → a3 c = nI to ∧ a4 c = 1 ∧ a5 c = 40
def cs_dF (fr nu : List Nat) (a8 a9 : Nat → Int32) : Prop := ∀ c, c < 8 → ∀ j, j < fr.getD c 0 → a8 (2 * c + j) = nI (FL c (nu.getD c 0 + j)) ∧ ∀ i, i < FL c (nu.getD c 0 + j) → a9 (27 * (2 * c + j) + i) = FB c (nu.getD c 0 + j) i
def cs_dQ (q : List (Nat × Nat × Nat)) (a20 : Nat → Int32) : Prop := ∀ j c n k, q[j]? = some (c, n, k) → ∀ i, i < 12 → a20 (12 * (6 * to + j) + i) = cs_cw c n k (cs_cl c) (cs_pp FL FB c n) i
def cs_dK (kc kn : List Nat) (a28 : Nat → Int32) : Prop := ∀ c, c < 8 → ∀ i, i < 8 * kc.getD c 0 → a28 (32 * c + i) = cs_pw (cs_pp FL FB c (kn.getD c 0)) (8 * cs_cl c) i
def cs_dI (ib : List (Nat × Nat)) (a22 a23 a24 : Nat → Int32) : Prop := ∀ j c n, ib[j]? = some (c, n) → a22 (4 * to + j) = nI c ∧ a23 (4 * to + j) = nI (FL c n) ∧ ∀ i, i < FL c n → a24 (27 * (4 * to + j) + i) = FB c n i
/-- the state u matches the picture M; bf bytes bb are buffered -/
def cs_R (bf : Nat) (bb : Nat → Int32) (M : cs_M) (u : St2) : Prop := match M with
  | (T, op, fm, du, fr, nx, nu, sp, ls, q, ib, kc, kn, ct) => ∃ (f2 : Int32) (a3 a4 a5 a8 a9 a13 a14 a17 a20 a22 a23 a24 a28 : Nat → Int32), cs_dO to op a3 a4 a5 ∧ cs_dF FL FB fr nu a8 a9 ∧ cs_dQ to FL FB q a20 ∧ cs_dK FL FB kc kn a28 ∧ cs_dI to FL FB ib a22 a23 a24 ∧ (∀ i, i < bf → a13 i = bb i) ∧ u = (nI bf, nI T, f2, cs_v op, cs_v fm, a3, a4, a5, cs_v du, cs_v fr, a8, a9, cs_v nx, cs_v nu, cs_w sp, a13, a14, cs_v ls, fun _ => 0, a17, fun _ => 0, cs_o to q.length, a20, cs_o to ib.length, a22, a23, a24, cs_v kc, fun _ => 0, cs_v kn, a28, cs_v ct)
end
/-- the lengths of frames -/
def cs_FLok (FL : Nat → Nat → Nat) : Prop := ∀ c n, 1 ≤ FL c n ∧ FL c n ≤ 27 ∧ (FL c n + 12) / 8 = cs_cl c
section
variable {f0 f1 f2 : Int32} {a1 a2 a3 a4 a5 a6 a7 a8 a9 a10 a11 a12 a13 a14 a15 a16 a17 a18 a19 a20 a21 a22 a23 a24 a25 a26 a27 a28 a29 : Nat → Int32}
variable {T : Nat} {op fm du fr nx nu sp ls : List Nat} {q : List (Nat × Nat × Nat)} {ib : List (Nat × Nat)} {kc kn ct : List Nat}
variable {to bf : Nat} {FL : Nat → Nat → Nat} {FB : Nat → Nat → Nat → Int32} {bb : Nat → Int32}
theorem cs_Rmk (hO : cs_dO to op a3 a4 a5) (hF : cs_dF FL FB fr nu a8 a9) (hQ : cs_dQ to FL FB q a20) (hK : cs_dK FL FB kc kn a28) (hI : cs_dI to FL FB ib a22 a23 a24) (hB : ∀ i, i < bf → a13 i = bb i) :
    cs_R to FL FB bf bb (T, op, fm, du, fr, nx, nu, sp, ls, q, ib, kc, kn, ct) (nI bf, nI T, f2, cs_v op, cs_v fm, a3, a4, a5, cs_v du, cs_v fr, a8, a9, cs_v nx, cs_v nu, cs_w sp, a13, a14, cs_v ls, fun _ => 0, a17, fun _ => 0, cs_o to q.length, a20, cs_o to ib.length, a22, a23, a24, cs_v kc, fun _ => 0, cs_v kn, a28, cs_v ct) := ⟨f2, a3, a4, a5, a8, a9, a13, a14, a17, a20, a22, a23, a24, a28, hO, hF, hQ, hK, hI, hB, rfl⟩
theorem cs_vi {l : List Nat} {k : Nat} (h : k < l.length) : upd (cs_v l) k (cs_v l k + 1) = cs_v (l.set k (l.getD k 0 + 1)) := by
  show upd (cs_v l) k (nI (l.getD k 0) + 1) = _
  rw [nI_1, cs_vs h]
theorem cs_vd {l : List Nat} {k : Nat} (h : k < l.length) (h0 : 0 < l.getD k 0) : upd (cs_v l) k (cs_v l k - 1) = cs_v (l.set k (l.getD k 0 - 1)) := by
  have e : nI (l.getD k 0) - 1 = nI (l.getD k 0 - 1) := pk_sub (b := 1) h0
  show upd (cs_v l) k (nI (l.getD k 0) - 1) = _
  rw [e, cs_vs h]
theorem cs_v0 {l : List Nat} {k : Nat} (h : k < l.length) : upd (cs_v l) k 0 = cs_v (l.set k 0) := cs_vs (v := 0) h
theorem cs_we {l : List Nat} {c n : Nat} (h : l.getD c 1 < 1000) (hn : n < 1000) : cs_w l c = nI n ↔ l.getD c 1 = n + 1 := by
  show nI (l.getD c 1) - 1 = nI n ↔ _
  constructor
  · intro z
    have e : nI (l.getD c 1) = nI (n + 1) := by
      rw [← nI_1, ← z]
      exact (Int32.sub_add_cancel _ _).symm
    exact (nI_eq (by omega) (by omega)).mp e
  · intro z
    rw [z, nI_pred]
theorem cs_dQa {x : Nat × Nat × Nat} (hQ : cs_dQ to FL FB q a20) (hw : ∀ i, i < 12 → a14 i = cs_cw x.1 x.2.1 x.2.2 (cs_cl x.1) (cs_pp FL FB x.1 x.2.1) i) : cs_dQ to FL FB (q ++ [x]) (va_cpy a14 a20 0 (12 * (6 * to + q.length)) 12) := by
  intro j c n k hj i hi
  rw [List.getElem?_append] at hj
  by_cases y : j < q.length
  · rw [if_pos y] at hj
    rw [pk_cpy_out (by omega)]
    exact hQ j c n k hj i hi
  · rw [if_neg y] at hj
    have e : j = q.length := by
      rcases Nat.lt_or_ge (j - q.length) 1 with z | z
      · omega
      · rw [List.getElem?_eq_none (by simpa using z)] at hj
        exact absurd hj (by simp)
    subst e
    rw [Nat.sub_self] at hj
    have ex : x = (c, n, k) := by simpa using hj
    rw [pk_cpy_in (by omega) (by omega), show 0 + (12 * (6 * to + q.length) + i - 12 * (6 * to + q.length)) = i by omega, hw i hi, ex]
theorem cs_admR {post : St2 → Prop} {c n k : Nat} {last : Bool} (hc : c < 8) (ht : to < 4) (hn : n < 256) (hk : k < 4) (hla : last = decide (k + 1 = cs_cl c))
    (hw : ∀ i, i < 12 → a14 i = cs_cw c n k (cs_cl c) (cs_pp FL FB c n) i)
    (hT : T < 800) (hdu : du.length = 8) (hsp : sp.length = 8) (hct : ct.length = 7) (hq : q.length ≤ 6) (hd : du.getD c 0 ≤ T + 40) (hsb : sp.getD c 1 < 1000) (hop : op.getD c 0 ≠ 0)
    (hO : cs_dO to op a3 a4 a5) (hF : cs_dF FL FB fr nu a8 a9) (hQ : cs_dQ to FL FB q a20) (hK : cs_dK FL FB kc kn a28) (hI : cs_dI to FL FB ib a22 a23 a24) (hB : ∀ i, i < bf → a13 i = bb i)
    (H : ∀ u, cs_R to FL FB bf bb (cs_adm c n k last (T, op, fm, du, fr, nx, nu, sp, ls, q, ib, kc, kn, ct)) u → post u) : wpX_admit post (nI bf, nI T, f2, cs_v op, cs_v fm, a3, a4, a5, cs_v du, cs_v fr, a8, a9, cs_v nx, cs_v nu, cs_w sp, a13, a14, cs_v ls, fun _ => 0, a17, fun _ => 0, cs_o to q.length, a20, cs_o to ib.length, a22, a23, a24, cs_v kc, fun _ => 0, cs_v kn, a28, cs_v ct) := by
  have w0 : a14 0 = cs_h0 c k (cs_cl c) := hw 0 (by omega)
  have w1 : a14 1 = 0 := hw 1 (by omega)
  have w2 : a14 2 = nI n := hw 2 (by omega)
  have hr := cs_h0r (cl := cs_cl c) hc hk
  have ho := hO c hc hop
  refine cs_admit (n := n) (d := du.getD c 0) (last := last) hc ht hq (by rw [w0]; exact hr.1) (by rw [w1, w2]; exact cs_nx n) ho.1 cs_oe ho.2.1 ho.2.2 rfl hd (by omega) (by omega) rfl (by rw [w0, hla]; exact hr.2.1) (fun h1 h2 => ?_) (fun h1 h2 => ?_) (fun h1 h2 => ?_)
  · rw [cs_we hsb (by omega)] at h1
    have E : cs_adm c n k last (T, op, fm, du, fr, nx, nu, sp, ls, q, ib, kc, kn, ct) = (T, op, fm, du.set c (max T (du.getD c 0) + 1), fr, nx, nu, sp.set c (n + 1), ls, q, ib, kc, kn, ct.set 1 (ct.getD 1 0 + 1)) := if_pos ⟨h1, h2⟩
    rw [E] at H
    rw [cs_vs (by omega), cs_ws (by omega), cs_vi (by omega)]
    exact H _ (cs_Rmk hO hF hQ hK hI hB)
  · rw [cs_we hsb (by omega)] at h1
    have E : cs_adm c n k last (T, op, fm, du, fr, nx, nu, sp, ls, q, ib, kc, kn, ct) = (T, op, fm, du.set c (max T (du.getD c 0) + 1), fr, nx, nu, sp.set c (n + 1), ls, q, ib, kc, kn, ct.set 2 (ct.getD 2 0 + 1)) := (if_neg h1).trans (if_pos h2)
    rw [E] at H
    rw [cs_vs (by omega), cs_ws (by omega), cs_vi (by omega)]
    exact H _ (cs_Rmk hO hF hQ hK hI hB)
  · rw [cs_we hsb (by omega)] at h1
    have E : cs_adm c n k last (T, op, fm, du, fr, nx, nu, sp, ls, q, ib, kc, kn, ct) = (T, op, fm, du.set c (max T (du.getD c 0) + 1), fr, nx, nu, sp, ls, q ++ [(c, n, k)], ib, kc, kn, ct) := (if_neg h1).trans (if_neg h2)
    rw [E] at H
    have el : q.length + 1 = (q ++ [(c, n, k)]).length := by simp
    rw [cs_vs (by omega), cs_os, el]
    exact H _ (cs_Rmk hO hF (cs_dQa hQ hw) hK hI hB)
theorem cs_dFl {c : Nat} (hc : c < 8) (h8 : fr.length = 8) (h8' : nu.length = 8) (hFL : cs_FLok FL) (hb : ∀ c, c < 8 → fr.getD c 0 ≤ 2) (hF : cs_dF FL FB fr nu a8 a9) :
    cs_dF FL FB (fr.set c (fr.getD c 0 - 1)) (nu.set c (nu.getD c 0 + 1)) (upd a8 (2 * c) (a8 (2 * c + 1))) (cs_sh a9 (27 * (2 * c)) 27 27) := by
  intro d hd j hj
  rw [cs_gs (by omega)] at hj
  rw [cs_gs (by omega)]
  by_cases e : d = c
  · subst e
    rw [if_pos rfl] at hj
    rw [if_pos rfl]
    have h2 := hb d hd
    have hj0 : j = 0 := by omega
    subst hj0
    have f := hF d hd 1 (by omega)
    have hl := hFL d (nu.getD d 0 + 1)
    refine ⟨?_, fun i hi => ?_⟩
    · rw [Nat.add_zero (2 * d), Nat.add_zero (nu.getD d 0 + 1), pk_us]
      exact f.1
    · rw [Nat.add_zero (nu.getD d 0 + 1)] at hi
      rw [Nat.add_zero (2 * d), Nat.add_zero (nu.getD d 0 + 1)]
      rw [cs_shi (by omega) (by omega), show 27 * (2 * d) + i + 27 = 27 * (2 * d + 1) + i by omega]
      exact f.2 i hi
  · rw [if_neg e] at hj
    rw [if_neg e]
    have h2 := hb d hd
    have f := hF d hd j hj
    have hl := hFL d (nu.getD d 0 + j)
    refine ⟨?_, fun i hi => ?_⟩
    · rw [pk_un (by omega)]
      exact f.1
    · rw [cs_sho (by omega)]
      exact f.2 i hi
theorem cs_cl4 (c : Nat) : 1 ≤ cs_cl c ∧ cs_cl c ≤ 4 := by
  unfold cs_cl
  split <;> omega
theorem cs_sendR {post : St2 → Prop} {M : cs_M} {u : St2} {s : Nat} (hFL : cs_FLok FL) (ht : to < 4) (hs : s < 4) (hwf : cs_wf M = true) (hR : cs_R to FL FB bf bb M u) (H : ∀ u', cs_R to FL FB bf bb (cs_send s M) u' → post u') : wpX_sendFrom post u (nI s) := by
  obtain ⟨T, op, fm, du, fr, nx, nu, sp, ls, q, ib, kc, kn, ct⟩ := M
  obtain ⟨f2, a3, a4, a5, a8, a9, a13, a14, a17, a20, a22, a23, a24, a28, hO, hF, hQ, hK, hI, hB, rfl⟩ := hR
  obtain ⟨⟨hT, l1, l2, l3, l4, l5, l6, l7, l8, l9, l10, hq, hib⟩, hall, hls⟩ := cs_wfe hwf
  unfold wpX_sendFrom
  refine cs_nextCircuit hs (hls s hs) (fun c hc => (hall c hc).1) (fun c hc => (hall c hc).2.1) (fun c hc => by have := (hall c hc).2.2.2.1; omega) (fun c hcs => ?_) (fun hn => ?_)
  · have E : cs_send s (T, op, fm, du, fr, nx, nu, sp, ls, q, ib, kc, kn, ct) = cs_snc s c (T, op, fm, du, fr, nx, nu, sp, ls, q, ib, kc, kn, ct) := by
      show (match cs_nf (cs_g op fm fr s) (ls.getD s 0) 8 1 with | none => (T, op, fm, du, fr, nx, nu, sp, ls, q, ib, kc, kn, ct) | some c => cs_snc s c (T, op, fm, du, fr, nx, nu, sp, ls, q, ib, kc, kn, ct)) = _
      rw [hcs]
    rw [E] at H
    obtain ⟨hc, hg⟩ := cs_nfg 8 1 c hcs
    unfold cs_g at hg
    simp only [Bool.and_eq_true, bne_iff_ne, beq_iff_eq, ne_eq] at hg
    obtain ⟨b1, b2, b3, b4, b5, b6, b7, b8⟩ := hall c hc
    have hl := hFL c (nu.getD c 0)
    have c4 := cs_cl4 c
    have f := hF c hc 0 (by omega)
    rw [Nat.add_zero, Nat.add_zero] at f
    refine br_t (nI_pos' (by omega)) ⟨pk_in s 4 hs, nm_r (e' := cs_v (ls.set s c)) (by rw [nI_clamp (by omega), cs_vs (by omega)]) ?_⟩
    refine cs_makeCell (n := nu.getD c 0) (k := nx.getD c 0) (L := FL c (nu.getD c 0)) (B := FB c (nu.getD c 0)) (cl := cs_cl c) hc b5 hl.2.2 (by omega) hl.2.1 hl.1 rfl rfl f.1 f.2 (fun b hb hk => ?_) (fun b hb hk => ?_)
    · have E2 : cs_snc s c (T, op, fm, du, fr, nx, nu, sp, ls, q, ib, kc, kn, ct) = cs_adm c (nu.getD c 0) (nx.getD c 0) false (T, op, fm, du, fr, nx.set c (nx.getD c 0 + 1), nu, sp, ls.set s c, q, ib, kc, kn, ct) := if_neg hk
      rw [E2] at H
      rw [cs_vs (by omega)]
      refine cs_turnBits hs (cs_isMended hs ?_ (br_f (by decide) ?_))
      · rw [hb 0 (by omega), hb 1 (by omega), hb 2 (by omega), hb 3 (by omega)]
        rfl
      · exact cs_admR hc ht (by omega) (by omega) (decide_eq_false hk).symm hb hT l2 l6 l10 hq b3 b7 hg.1 hO hF hQ hK hI hB H
    · have E2 : cs_snc s c (T, op, fm, du, fr, nx, nu, sp, ls, q, ib, kc, kn, ct) = cs_adm c (nu.getD c 0) (nx.getD c 0) true (T, op, fm, du, fr.set c (fr.getD c 0 - 1), (nx.set c (nx.getD c 0 + 1)).set c 0, nu.set c (nu.getD c 0 + 1), sp, ls.set s c, q, ib, kc, kn, ct) := if_pos hk
      rw [E2] at H
      rw [cs_vd (by omega) (by omega), cs_vs (by omega), cs_v0 (by rw [List.length_set]; omega), cs_vi (by omega)]
      refine cs_turnBits hs (cs_isMended hs ?_ (br_f (by decide) ?_))
      · rw [hb 0 (by omega), hb 1 (by omega), hb 2 (by omega), hb 3 (by omega)]
        rfl
      · exact cs_admR hc ht (by omega) (by omega) (decide_eq_true hk).symm hb hT l2 l6 l10 hq b3 b7 hg.1 hO (cs_dFl hc l3 l5 hFL (fun d hd => (hall d hd).2.2.2.1) hF) hQ hK hI hB H
  · have E : cs_send s (T, op, fm, du, fr, nx, nu, sp, ls, q, ib, kc, kn, ct) = (T, op, fm, du, fr, nx, nu, sp, ls, q, ib, kc, kn, ct) := by
      show (match cs_nf (cs_g op fm fr s) (ls.getD s 0) 8 1 with | none => (T, op, fm, du, fr, nx, nu, sp, ls, q, ib, kc, kn, ct) | some c => cs_snc s c (T, op, fm, du, fr, nx, nu, sp, ls, q, ib, kc, kn, ct)) = _
      rw [hn]
    rw [E] at H
    exact br_f (by decide) (H _ (cs_Rmk hO hF hQ hK hI hB))
end
end
section
/-! deliverTo and pass, against the picture -/
section
variable {f0 f1 f2 : Int32} {a1 a2 a3 a4 a5 a6 a7 a8 a9 a10 a11 a12 a13 a14 a15 a16 a17 a18 a19 a20 a21 a22 a23 a24 a25 a26 a27 a28 a29 : Nat → Int32}
variable {T : Nat} {op fm du fr nx nu sp ls : List Nat} {q : List (Nat × Nat × Nat)} {ib : List (Nat × Nat)} {kc kn ct : List Nat}
variable {to bf : Nat} {FL : Nat → Nat → Nat} {FB : Nat → Nat → Nat → Int32} {bb : Nat → Int32}
theorem cs_dQd {x : Nat × Nat × Nat} (hQ : cs_dQ to FL FB (x :: q) a20) : cs_dQ to FL FB q (cs_sh a20 (72 * to) 12 (12 * q.length)) := by
  intro j c n k hj i hi
  have hl : j < q.length := by
    rcases Nat.lt_or_ge j q.length with z | z
    · exact z
    · rw [List.getElem?_eq_none z] at hj
      exact absurd hj (by simp)
  rw [cs_shi (by omega) (by omega), show 12 * (6 * to + j) + i + 12 = 12 * (6 * to + (j + 1)) + i by omega]
  exact hQ (j + 1) c n k (by simpa using hj) i hi
theorem cs_dKd {c n k : Nat} {b : Nat → Int32} {l : List Nat} (hc : c < 8) (hk : k < cs_cl c) (h8 : kc.length = 8) (h8' : kn.length = 8) (hb : ∀ c, c < 8 → kc.getD c 0 ≤ 4) (hkc : kc.getD c 0 = k) (hkn : k = 0 ∨ kn.getD c 0 = n)
    (hl : ∀ d, d < 8 → l.getD d 0 = kc.getD d 0 ∧ d ≠ c ∨ d = c ∧ l.getD d 0 ≤ k + 1) (hK : cs_dK FL FB kc kn a28) (hp : cs_kp a28 c k (cs_cl c) (cs_pp FL FB c n) b) : cs_dK FL FB l (kn.set c n) b := by
  intro d hd i hi
  have c4 := cs_cl4 c
  rw [hp, cs_gs (by omega)]
  rcases hl d hd with ⟨z1, z2⟩ | ⟨z1, z2⟩
  · have h4 := hb d hd
    rw [if_neg (by omega), if_neg z2]
    exact hK d hd i (by omega)
  · subst z1
    rw [if_pos rfl]
    by_cases y : 8 * k ≤ i
    · rw [if_pos (by omega), show 32 * d + i - 32 * d = i by omega]
    · rw [if_neg (by omega), ← hkn.resolve_left (by omega)]
      exact hK d hd i (by omega)
theorem cs_dIa {c n : Nat} {b : Nat → Int32} (hFL : cs_FLok FL) (hc : c < 8) (hb : ∀ i, i < FL c n → b (32 * c + i) = FB c n i) (hI : cs_dI to FL FB ib a22 a23 a24) :
    cs_dI to FL FB (ib ++ [(c, n)]) (upd a22 (4 * to + ib.length) (nI c)) (upd a23 (4 * to + ib.length) (nI (FL c n))) (va_cpy b a24 (32 * c) (27 * (4 * to + ib.length)) (FL c n)) := by
  intro j d m hj
  rw [List.getElem?_append] at hj
  by_cases y : j < ib.length
  · rw [if_pos y] at hj
    have f := hI j d m hj
    have hl := hFL d m
    refine ⟨?_, ?_, fun i hi => ?_⟩
    · rw [pk_un (by omega)]
      exact f.1
    · rw [pk_un (by omega)]
      exact f.2.1
    · rw [pk_cpy_out (by omega)]
      exact f.2.2 i hi
  · rw [if_neg y] at hj
    have e : j = ib.length := by
      rcases Nat.lt_or_ge (j - ib.length) 1 with z | z
      · omega
      · rw [List.getElem?_eq_none (by simpa using z)] at hj
        exact absurd hj (by simp)
    subst e
    rw [Nat.sub_self] at hj
    have ex : (c, n) = (d, m) := by simpa using hj
    obtain ⟨rfl, rfl⟩ := Prod.mk.inj ex
    refine ⟨pk_us, pk_us, fun i hi => ?_⟩
    rw [pk_cpy_in (by omega) (by omega), show 27 * (4 * to + ib.length) + i - 27 * (4 * to + ib.length) = i by omega]
    exact hb i hi
theorem cs_delR {post : St2 → Prop} {M : cs_M} {u : St2} (hFL : cs_FLok FL) (ht : to < 4) (hok : cs_okd M = true) (hR : cs_R to FL FB bf bb M u) (H : ∀ u', cs_R to FL FB bf bb (cs_del M) u' → post u') : wpX_deliverTo post u (nI to) := by
  obtain ⟨T, op, fm, du, fr, nx, nu, sp, ls, q, ib, kc, kn, ct⟩ := M
  obtain ⟨f2, a3, a4, a5, a8, a9, a13, a14, a17, a20, a22, a23, a24, a28, hO, hF, hQ, hK, hI, hB, rfl⟩ := hR
  obtain ⟨⟨l8, l9, l10, hq, hib⟩, hkb, hhd⟩ := cs_okde hok
  cases q with
  | nil => exact cs_deliverTo0 ht cs_oe (H _ (cs_Rmk hO hF hQ hK hI hB))
  | cons x q =>
    obtain ⟨c, n, k⟩ := x
    obtain ⟨hc, hn, hk, hkc, hkn⟩ := hhd c n k q rfl
    have hl := hFL c n
    have c4 := cs_cl4 c
    have hql : q.length + 1 ≤ 6 := hq
    have hw : ∀ i, i < 12 → a20 (72 * to + i) = cs_cw c n k (cs_cl c) (cs_pb (FL c n) (FB c n) (8 * cs_cl c)) i := by
      intro i hi
      have h := hQ 0 c n k rfl i hi
      rw [show 12 * (6 * to + 0) + i = 72 * to + i by omega] at h
      exact h
    have hkp : ∀ i, i < 8 * k → a28 (32 * c + i) = cs_pw (cs_pb (FL c n) (FB c n) (8 * cs_cl c)) (8 * cs_cl c) i := by
      intro i hi
      have h := hK c hc i (by omega)
      rw [hkn.resolve_left (by omega)] at h
      exact h
    have hbf : ∀ b, cs_kp a28 c k (cs_cl c) (cs_pb (FL c n) (FB c n) (8 * cs_cl c)) b → k + 1 = cs_cl c → ∀ i, i < FL c n → b (32 * c + i) = FB c n i := by
      intro b hb hke i hi
      have hx : cs_pw (cs_pb (FL c n) (FB c n) (8 * cs_cl c)) (8 * cs_cl c) i = FB c n i := by
        unfold cs_pw
        rw [if_pos (by omega)]
        unfold cs_pb
        rw [if_pos hi]
      rw [hb]
      by_cases y : 8 * k ≤ i
      · rw [if_pos (by omega), show 32 * c + i - 32 * c = i by omega]
        exact hx
      · rw [if_neg (by omega), hkp i (by omega)]
        exact hx
    have hl1 : ∀ d, d < 8 → (kc.set c (k + 1)).getD d 0 = kc.getD d 0 ∧ d ≠ c ∨ d = c ∧ (kc.set c (k + 1)).getD d 0 ≤ k + 1 := by
      intro d hd
      rw [cs_gs (by omega)]
      by_cases y : d = c
      · rw [if_pos y]
        exact Or.inr ⟨y, Nat.le_refl _⟩
      · rw [if_neg y]
        exact Or.inl ⟨rfl, y⟩
    have hl2 : ∀ d, d < 8 → ((kc.set c (k + 1)).set c 0).getD d 0 = kc.getD d 0 ∧ d ≠ c ∨ d = c ∧ ((kc.set c (k + 1)).set c 0).getD d 0 ≤ k + 1 := by
      intro d hd
      rw [cs_gs (by rw [List.length_set]; omega), cs_gs (by omega)]
      by_cases y : d = c
      · rw [if_pos y]
        exact Or.inr ⟨y, Nat.zero_le _⟩
      · rw [if_neg y, if_neg y]
        exact Or.inl ⟨rfl, y⟩
    have h25 : cs_v kc c = nI k := by
      show nI (kc.getD c 0) = nI k
      rw [hkc]
    have h27 : k = 0 ∨ cs_v kn c = nI n := by
      rcases hkn with z | z
      · exact Or.inl z
      · exact Or.inr (by show nI (kn.getD c 0) = nI n; rw [z])
    refine cs_deliverTo (L := FL c n) (B := FB c n) (cl := cs_cl c) (m := ib.length) hc ht (by omega) hk hl.2.2 hl.1 hl.2.1 hib (by omega) cs_oe hw h25 h27 cs_oe hkp (fun d b hb hke => ?_) (fun d b hb hke hm => ?_) (fun d b hb hke hm => ?_)
    · have E : cs_del (T, op, fm, du, fr, nx, nu, sp, ls, (c, n, k) :: q, ib, kc, kn, ct) = (T, op, fm, du, fr, nx, nu, sp, ls, q, ib, kc.set c (k + 1), kn.set c n, ct) := if_neg hke
      rw [E] at H
      rw [cs_os, cs_vs (by omega), cs_vs (by omega)]
      exact H _ (cs_Rmk hO hF (cs_dQd hQ) (cs_dKd hc hk l8 l9 hkb hkc hkn hl1 hK hb) hI hB)
    · have E : cs_del (T, op, fm, du, fr, nx, nu, sp, ls, (c, n, k) :: q, ib, kc, kn, ct) = (T, op, fm, du, fr, nx, nu, sp, ls, q, ib, (kc.set c (k + 1)).set c 0, kn.set c n, ct.set 6 (ct.getD 6 0 + 1)) := (if_pos hke).trans (if_pos hm)
      rw [E] at H
      rw [cs_os, cs_vs (by omega), cs_v0 (by rw [List.length_set]; omega), cs_vs (by omega), cs_vi (by omega)]
      exact H _ (cs_Rmk hO hF (cs_dQd hQ) (cs_dKd hc hk l8 l9 hkb hkc hkn hl2 hK hb) hI hB)
    · have E : cs_del (T, op, fm, du, fr, nx, nu, sp, ls, (c, n, k) :: q, ib, kc, kn, ct) = (T, op, fm, du, fr, nx, nu, sp, ls, q, ib ++ [(c, n)], (kc.set c (k + 1)).set c 0, kn.set c n, ct.set 4 (ct.getD 4 0 + 1)) := (if_pos hke).trans (if_neg hm)
      rw [E] at H
      have el : ib.length + 1 = (ib ++ [(c, n)]).length := by simp
      rw [cs_os, cs_os, cs_vs (by omega), cs_v0 (by rw [List.length_set]; omega), cs_vs (by omega), cs_vi (by omega), el]
      exact H _ (cs_Rmk hO hF (cs_dQd hQ) (cs_dKd hc hk l8 l9 hkb hkc hkn hl2 hK hb) (cs_dIa hFL hc (hbf b hb hke) hI) hB)
theorem cs_delN {post : St2 → Prop} {M : cs_M} {u : St2} {s : Nat} (hs : s < 4) (hst : s ≠ to) (hR : cs_R to FL FB bf bb M u) (H : post u) : wpX_deliverTo post u (nI s) := by
  obtain ⟨T, op, fm, du, fr, nx, nu, sp, ls, q, ib, kc, kn, ct⟩ := M
  obtain ⟨f2, a3, a4, a5, a8, a9, a13, a14, a17, a20, a22, a23, a24, a28, hO, hF, hQ, hK, hI, hB, rfl⟩ := hR
  exact cs_deliverTo0 hs (cs_on hst) H
/-- one tick is in order -/
def cs_okT (M : cs_M) : Bool := (List.range 4).all (fun i => cs_wf (cs_snd i (cs_clk M))) && cs_okd (cs_snd 4 (cs_clk M))
theorem cs_okTe {M : cs_M} (h : cs_okT M = true) : (∀ i, i < 4 → cs_wf (cs_snd i (cs_clk M)) = true) ∧ cs_okd (cs_snd 4 (cs_clk M)) = true := by
  unfold cs_okT at h
  rw [Bool.and_eq_true] at h
  exact ⟨cs_ra h.1, h.2⟩
theorem cs_pass61 {post : Int32 → St2 → Prop} {J : Int32 → Int32 → Int32 → Int32 → (Nat → Int32) → (Nat → Int32) → (Nat → Int32) → (Nat → Int32) → (Nat → Int32) → (Nat → Int32) → (Nat → Int32) → (Nat → Int32) → (Nat → Int32) → (Nat → Int32) → (Nat → Int32) → (Nat → Int32) → (Nat → Int32) → (Nat → Int32) → (Nat → Int32) → (Nat → Int32) → (Nat → Int32) → (Nat → Int32) → (Nat → Int32) → (Nat → Int32) → (Nat → Int32) → (Nat → Int32) → (Nat → Int32) → (Nat → Int32) → (Nat → Int32) → (Nat → Int32) → (Nat → Int32) → (Nat → Int32) → (Nat → Int32) → Prop}
    {x1 x2 : Int32} {x3 : Nat} {M : cs_M} {u : St2} (hFL : cs_FLok FL) (ht : to < 4) (hok : cs_okd M = true) (hR : cs_R to FL FB bf bb M u) (H : ∀ s, cs_R to FL FB bf bb (cs_del M) s → J (nI (x3 + 1)) s.1 s.2.1 s.2.2.1 s.2.2.2.1 s.2.2.2.2.1 s.2.2.2.2.2.1 s.2.2.2.2.2.2.1 s.2.2.2.2.2.2.2.1 s.2.2.2.2.2.2.2.2.1 s.2.2.2.2.2.2.2.2.2.1 s.2.2.2.2.2.2.2.2.2.2.1 s.2.2.2.2.2.2.2.2.2.2.2.1 s.2.2.2.2.2.2.2.2.2.2.2.2.1 s.2.2.2.2.2.2.2.2.2.2.2.2.2.1 s.2.2.2.2.2.2.2.2.2.2.2.2.2.2.1 s.2.2.2.2.2.2.2.2.2.2.2.2.2.2.2.1 s.2.2.2.2.2.2.2.2.2.2.2.2.2.2.2.2.1 s.2.2.2.2.2.2.2.2.2.2.2.2.2.2.2.2.2.1 s.2.2.2.2.2.2.2.2.2.2.2.2.2.2.2.2.2.2.1 s.2.2.2.2.2.2.2.2.2.2.2.2.2.2.2.2.2.2.2.1 s.2.2.2.2.2.2.2.2.2.2.2.2.2.2.2.2.2.2.2.2.1 s.2.2.2.2.2.2.2.2.2.2.2.2.2.2.2.2.2.2.2.2.2.1 s.2.2.2.2.2.2.2.2.2.2.2.2.2.2.2.2.2.2.2.2.2.2.1 s.2.2.2.2.2.2.2.2.2.2.2.2.2.2.2.2.2.2.2.2.2.2.2.1 s.2.2.2.2.2.2.2.2.2.2.2.2.2.2.2.2.2.2.2.2.2.2.2.2.1 s.2.2.2.2.2.2.2.2.2.2.2.2.2.2.2.2.2.2.2.2.2.2.2.2.2.1 s.2.2.2.2.2.2.2.2.2.2.2.2.2.2.2.2.2.2.2.2.2.2.2.2.2.2.1 s.2.2.2.2.2.2.2.2.2.2.2.2.2.2.2.2.2.2.2.2.2.2.2.2.2.2.2.1 s.2.2.2.2.2.2.2.2.2.2.2.2.2.2.2.2.2.2.2.2.2.2.2.2.2.2.2.2.1 s.2.2.2.2.2.2.2.2.2.2.2.2.2.2.2.2.2.2.2.2.2.2.2.2.2.2.2.2.2.1 s.2.2.2.2.2.2.2.2.2.2.2.2.2.2.2.2.2.2.2.2.2.2.2.2.2.2.2.2.2.2.1 s.2.2.2.2.2.2.2.2.2.2.2.2.2.2.2.2.2.2.2.2.2.2.2.2.2.2.2.2.2.2.2) :
    ∃ n, wX_pass_61 post J x1 x2 (nI x3) n 0 u.1 u.2.1 u.2.2.1 u.2.2.2.1 u.2.2.2.2.1 u.2.2.2.2.2.1 u.2.2.2.2.2.2.1 u.2.2.2.2.2.2.2.1 u.2.2.2.2.2.2.2.2.1 u.2.2.2.2.2.2.2.2.2.1 u.2.2.2.2.2.2.2.2.2.2.1 u.2.2.2.2.2.2.2.2.2.2.2.1 u.2.2.2.2.2.2.2.2.2.2.2.2.1 u.2.2.2.2.2.2.2.2.2.2.2.2.2.1 u.2.2.2.2.2.2.2.2.2.2.2.2.2.2.1 u.2.2.2.2.2.2.2.2.2.2.2.2.2.2.2.1 u.2.2.2.2.2.2.2.2.2.2.2.2.2.2.2.2.1 u.2.2.2.2.2.2.2.2.2.2.2.2.2.2.2.2.2.1 u.2.2.2.2.2.2.2.2.2.2.2.2.2.2.2.2.2.2.1 u.2.2.2.2.2.2.2.2.2.2.2.2.2.2.2.2.2.2.2.1 u.2.2.2.2.2.2.2.2.2.2.2.2.2.2.2.2.2.2.2.2.1 u.2.2.2.2.2.2.2.2.2.2.2.2.2.2.2.2.2.2.2.2.2.1 u.2.2.2.2.2.2.2.2.2.2.2.2.2.2.2.2.2.2.2.2.2.2.1 u.2.2.2.2.2.2.2.2.2.2.2.2.2.2.2.2.2.2.2.2.2.2.2.1 u.2.2.2.2.2.2.2.2.2.2.2.2.2.2.2.2.2.2.2.2.2.2.2.2.1 u.2.2.2.2.2.2.2.2.2.2.2.2.2.2.2.2.2.2.2.2.2.2.2.2.2.1 u.2.2.2.2.2.2.2.2.2.2.2.2.2.2.2.2.2.2.2.2.2.2.2.2.2.2.1 u.2.2.2.2.2.2.2.2.2.2.2.2.2.2.2.2.2.2.2.2.2.2.2.2.2.2.2.1 u.2.2.2.2.2.2.2.2.2.2.2.2.2.2.2.2.2.2.2.2.2.2.2.2.2.2.2.2.1 u.2.2.2.2.2.2.2.2.2.2.2.2.2.2.2.2.2.2.2.2.2.2.2.2.2.2.2.2.2.1 u.2.2.2.2.2.2.2.2.2.2.2.2.2.2.2.2.2.2.2.2.2.2.2.2.2.2.2.2.2.2.1 u.2.2.2.2.2.2.2.2.2.2.2.2.2.2.2.2.2.2.2.2.2.2.2.2.2.2.2.2.2.2.2 := by
  refine pk_loop (fun n i s => wX_pass_61 post J x1 x2 (nI x3) n (nI i) s.1 s.2.1 s.2.2.1 s.2.2.2.1 s.2.2.2.2.1 s.2.2.2.2.2.1 s.2.2.2.2.2.2.1 s.2.2.2.2.2.2.2.1 s.2.2.2.2.2.2.2.2.1 s.2.2.2.2.2.2.2.2.2.1 s.2.2.2.2.2.2.2.2.2.2.1 s.2.2.2.2.2.2.2.2.2.2.2.1 s.2.2.2.2.2.2.2.2.2.2.2.2.1 s.2.2.2.2.2.2.2.2.2.2.2.2.2.1 s.2.2.2.2.2.2.2.2.2.2.2.2.2.2.1 s.2.2.2.2.2.2.2.2.2.2.2.2.2.2.2.1 s.2.2.2.2.2.2.2.2.2.2.2.2.2.2.2.2.1 s.2.2.2.2.2.2.2.2.2.2.2.2.2.2.2.2.2.1 s.2.2.2.2.2.2.2.2.2.2.2.2.2.2.2.2.2.2.1 s.2.2.2.2.2.2.2.2.2.2.2.2.2.2.2.2.2.2.2.1 s.2.2.2.2.2.2.2.2.2.2.2.2.2.2.2.2.2.2.2.2.1 s.2.2.2.2.2.2.2.2.2.2.2.2.2.2.2.2.2.2.2.2.2.1 s.2.2.2.2.2.2.2.2.2.2.2.2.2.2.2.2.2.2.2.2.2.2.1 s.2.2.2.2.2.2.2.2.2.2.2.2.2.2.2.2.2.2.2.2.2.2.2.1 s.2.2.2.2.2.2.2.2.2.2.2.2.2.2.2.2.2.2.2.2.2.2.2.2.1 s.2.2.2.2.2.2.2.2.2.2.2.2.2.2.2.2.2.2.2.2.2.2.2.2.2.1 s.2.2.2.2.2.2.2.2.2.2.2.2.2.2.2.2.2.2.2.2.2.2.2.2.2.2.1 s.2.2.2.2.2.2.2.2.2.2.2.2.2.2.2.2.2.2.2.2.2.2.2.2.2.2.2.1 s.2.2.2.2.2.2.2.2.2.2.2.2.2.2.2.2.2.2.2.2.2.2.2.2.2.2.2.2.1 s.2.2.2.2.2.2.2.2.2.2.2.2.2.2.2.2.2.2.2.2.2.2.2.2.2.2.2.2.2.1 s.2.2.2.2.2.2.2.2.2.2.2.2.2.2.2.2.2.2.2.2.2.2.2.2.2.2.2.2.2.2.1 s.2.2.2.2.2.2.2.2.2.2.2.2.2.2.2.2.2.2.2.2.2.2.2.2.2.2.2.2.2.2.2) (fun i s => cs_R to FL FB bf bb (if i ≤ to then M else cs_del M) s) 4 0 u (by omega) (by rw [if_pos (by omega)]; exact hR) (fun n s h => ?_) (fun n i s hi h hw => ?_)
  · rw [if_neg (by omega)] at h
    exact pk_le 4 4 (fun _ => nm_r (nI_1 x3) (H s h)) (fun z => absurd z (by omega))
  · refine pk_le 4 i (fun z => absurd z (by omega)) (fun _ => ?_)
    by_cases e : i = to
    · subst e
      rw [if_pos (by omega)] at h
      refine cs_delR (u := s) hFL ht hok h (fun s' h' => ?_)
      have t := hw s' (by rw [if_neg (by omega)]; exact h')
      obtain ⟨f0, f1, f2, a1, a2, a3, a4, a5, a6, a7, a8, a9, a10, a11, a12, a13, a14, a15, a16, a17, a18, a19, a20, a21, a22, a23, a24, a25, a26, a27, a28, a29⟩ := s'
      exact nm_r (nI_1 i) t
    · refine cs_delN (u := s) hi e h ?_
      have t := hw s (by
        by_cases z : i ≤ to
        · rw [if_pos z] at h
          rw [if_pos (by omega)]
          exact h
        · rw [if_neg z] at h
          rw [if_neg (by omega)]
          exact h)
      obtain ⟨f0, f1, f2, a1, a2, a3, a4, a5, a6, a7, a8, a9, a10, a11, a12, a13, a14, a15, a16, a17, a18, a19, a20, a21, a22, a23, a24, a25, a26, a27, a28, a29⟩ := s
      exact nm_r (nI_1 i) t
theorem cs_pass40 {post : Int32 → St2 → Prop} {J : Int32 → Int32 → Int32 → Int32 → (Nat → Int32) → (Nat → Int32) → (Nat → Int32) → (Nat → Int32) → (Nat → Int32) → (Nat → Int32) → (Nat → Int32) → (Nat → Int32) → (Nat → Int32) → (Nat → Int32) → (Nat → Int32) → (Nat → Int32) → (Nat → Int32) → (Nat → Int32) → (Nat → Int32) → (Nat → Int32) → (Nat → Int32) → (Nat → Int32) → (Nat → Int32) → (Nat → Int32) → (Nat → Int32) → (Nat → Int32) → (Nat → Int32) → (Nat → Int32) → (Nat → Int32) → (Nat → Int32) → (Nat → Int32) → (Nat → Int32) → (Nat → Int32) → Prop}
    {x1 x2 : Int32} {x3 : Nat} {M : cs_M} {u : St2} (hFL : cs_FLok FL) (ht : to < 4) (hok : (∀ i, i < 4 → cs_wf (cs_snd i M) = true) ∧ cs_okd (cs_snd 4 M) = true) (hR : cs_R to FL FB bf bb M u) (H : ∀ s, cs_R to FL FB bf bb (cs_del (cs_snd 4 M)) s → J (nI (x3 + 1)) s.1 s.2.1 s.2.2.1 s.2.2.2.1 s.2.2.2.2.1 s.2.2.2.2.2.1 s.2.2.2.2.2.2.1 s.2.2.2.2.2.2.2.1 s.2.2.2.2.2.2.2.2.1 s.2.2.2.2.2.2.2.2.2.1 s.2.2.2.2.2.2.2.2.2.2.1 s.2.2.2.2.2.2.2.2.2.2.2.1 s.2.2.2.2.2.2.2.2.2.2.2.2.1 s.2.2.2.2.2.2.2.2.2.2.2.2.2.1 s.2.2.2.2.2.2.2.2.2.2.2.2.2.2.1 s.2.2.2.2.2.2.2.2.2.2.2.2.2.2.2.1 s.2.2.2.2.2.2.2.2.2.2.2.2.2.2.2.2.1 s.2.2.2.2.2.2.2.2.2.2.2.2.2.2.2.2.2.1 s.2.2.2.2.2.2.2.2.2.2.2.2.2.2.2.2.2.2.1 s.2.2.2.2.2.2.2.2.2.2.2.2.2.2.2.2.2.2.2.1 s.2.2.2.2.2.2.2.2.2.2.2.2.2.2.2.2.2.2.2.2.1 s.2.2.2.2.2.2.2.2.2.2.2.2.2.2.2.2.2.2.2.2.2.1 s.2.2.2.2.2.2.2.2.2.2.2.2.2.2.2.2.2.2.2.2.2.2.1 s.2.2.2.2.2.2.2.2.2.2.2.2.2.2.2.2.2.2.2.2.2.2.2.1 s.2.2.2.2.2.2.2.2.2.2.2.2.2.2.2.2.2.2.2.2.2.2.2.2.1 s.2.2.2.2.2.2.2.2.2.2.2.2.2.2.2.2.2.2.2.2.2.2.2.2.2.1 s.2.2.2.2.2.2.2.2.2.2.2.2.2.2.2.2.2.2.2.2.2.2.2.2.2.2.1 s.2.2.2.2.2.2.2.2.2.2.2.2.2.2.2.2.2.2.2.2.2.2.2.2.2.2.2.1 s.2.2.2.2.2.2.2.2.2.2.2.2.2.2.2.2.2.2.2.2.2.2.2.2.2.2.2.2.1 s.2.2.2.2.2.2.2.2.2.2.2.2.2.2.2.2.2.2.2.2.2.2.2.2.2.2.2.2.2.1 s.2.2.2.2.2.2.2.2.2.2.2.2.2.2.2.2.2.2.2.2.2.2.2.2.2.2.2.2.2.2.1 s.2.2.2.2.2.2.2.2.2.2.2.2.2.2.2.2.2.2.2.2.2.2.2.2.2.2.2.2.2.2.2) :
    ∃ n, wX_pass_40 post J x1 x2 (nI x3) n 0 u.1 u.2.1 u.2.2.1 u.2.2.2.1 u.2.2.2.2.1 u.2.2.2.2.2.1 u.2.2.2.2.2.2.1 u.2.2.2.2.2.2.2.1 u.2.2.2.2.2.2.2.2.1 u.2.2.2.2.2.2.2.2.2.1 u.2.2.2.2.2.2.2.2.2.2.1 u.2.2.2.2.2.2.2.2.2.2.2.1 u.2.2.2.2.2.2.2.2.2.2.2.2.1 u.2.2.2.2.2.2.2.2.2.2.2.2.2.1 u.2.2.2.2.2.2.2.2.2.2.2.2.2.2.1 u.2.2.2.2.2.2.2.2.2.2.2.2.2.2.2.1 u.2.2.2.2.2.2.2.2.2.2.2.2.2.2.2.2.1 u.2.2.2.2.2.2.2.2.2.2.2.2.2.2.2.2.2.1 u.2.2.2.2.2.2.2.2.2.2.2.2.2.2.2.2.2.2.1 u.2.2.2.2.2.2.2.2.2.2.2.2.2.2.2.2.2.2.2.1 u.2.2.2.2.2.2.2.2.2.2.2.2.2.2.2.2.2.2.2.2.1 u.2.2.2.2.2.2.2.2.2.2.2.2.2.2.2.2.2.2.2.2.2.1 u.2.2.2.2.2.2.2.2.2.2.2.2.2.2.2.2.2.2.2.2.2.2.1 u.2.2.2.2.2.2.2.2.2.2.2.2.2.2.2.2.2.2.2.2.2.2.2.1 u.2.2.2.2.2.2.2.2.2.2.2.2.2.2.2.2.2.2.2.2.2.2.2.2.1 u.2.2.2.2.2.2.2.2.2.2.2.2.2.2.2.2.2.2.2.2.2.2.2.2.2.1 u.2.2.2.2.2.2.2.2.2.2.2.2.2.2.2.2.2.2.2.2.2.2.2.2.2.2.1 u.2.2.2.2.2.2.2.2.2.2.2.2.2.2.2.2.2.2.2.2.2.2.2.2.2.2.2.1 u.2.2.2.2.2.2.2.2.2.2.2.2.2.2.2.2.2.2.2.2.2.2.2.2.2.2.2.2.1 u.2.2.2.2.2.2.2.2.2.2.2.2.2.2.2.2.2.2.2.2.2.2.2.2.2.2.2.2.2.1 u.2.2.2.2.2.2.2.2.2.2.2.2.2.2.2.2.2.2.2.2.2.2.2.2.2.2.2.2.2.2.1 u.2.2.2.2.2.2.2.2.2.2.2.2.2.2.2.2.2.2.2.2.2.2.2.2.2.2.2.2.2.2.2 := by
  refine pk_loop (fun n i s => wX_pass_40 post J x1 x2 (nI x3) n (nI i) s.1 s.2.1 s.2.2.1 s.2.2.2.1 s.2.2.2.2.1 s.2.2.2.2.2.1 s.2.2.2.2.2.2.1 s.2.2.2.2.2.2.2.1 s.2.2.2.2.2.2.2.2.1 s.2.2.2.2.2.2.2.2.2.1 s.2.2.2.2.2.2.2.2.2.2.1 s.2.2.2.2.2.2.2.2.2.2.2.1 s.2.2.2.2.2.2.2.2.2.2.2.2.1 s.2.2.2.2.2.2.2.2.2.2.2.2.2.1 s.2.2.2.2.2.2.2.2.2.2.2.2.2.2.1 s.2.2.2.2.2.2.2.2.2.2.2.2.2.2.2.1 s.2.2.2.2.2.2.2.2.2.2.2.2.2.2.2.2.1 s.2.2.2.2.2.2.2.2.2.2.2.2.2.2.2.2.2.1 s.2.2.2.2.2.2.2.2.2.2.2.2.2.2.2.2.2.2.1 s.2.2.2.2.2.2.2.2.2.2.2.2.2.2.2.2.2.2.2.1 s.2.2.2.2.2.2.2.2.2.2.2.2.2.2.2.2.2.2.2.2.1 s.2.2.2.2.2.2.2.2.2.2.2.2.2.2.2.2.2.2.2.2.2.1 s.2.2.2.2.2.2.2.2.2.2.2.2.2.2.2.2.2.2.2.2.2.2.1 s.2.2.2.2.2.2.2.2.2.2.2.2.2.2.2.2.2.2.2.2.2.2.2.1 s.2.2.2.2.2.2.2.2.2.2.2.2.2.2.2.2.2.2.2.2.2.2.2.2.1 s.2.2.2.2.2.2.2.2.2.2.2.2.2.2.2.2.2.2.2.2.2.2.2.2.2.1 s.2.2.2.2.2.2.2.2.2.2.2.2.2.2.2.2.2.2.2.2.2.2.2.2.2.2.1 s.2.2.2.2.2.2.2.2.2.2.2.2.2.2.2.2.2.2.2.2.2.2.2.2.2.2.2.1 s.2.2.2.2.2.2.2.2.2.2.2.2.2.2.2.2.2.2.2.2.2.2.2.2.2.2.2.2.1 s.2.2.2.2.2.2.2.2.2.2.2.2.2.2.2.2.2.2.2.2.2.2.2.2.2.2.2.2.2.1 s.2.2.2.2.2.2.2.2.2.2.2.2.2.2.2.2.2.2.2.2.2.2.2.2.2.2.2.2.2.2.1 s.2.2.2.2.2.2.2.2.2.2.2.2.2.2.2.2.2.2.2.2.2.2.2.2.2.2.2.2.2.2.2) (fun i s => cs_R to FL FB bf bb (cs_snd i M) s) 4 0 u (by omega) hR (fun n s h => ?_) (fun n i s hi h hw => ?_)
  · exact pk_le 4 4 (fun _ => cs_pass61 hFL ht hok.2 h H) (fun z => absurd z (by omega))
  · refine pk_le 4 i (fun z => absurd z (by omega)) (fun _ => ?_)
    refine cs_sendR (u := s) hFL ht hi (hok.1 i hi) h (fun s' h' => ?_)
    have t := hw s' h'
    obtain ⟨f0, f1, f2, a1, a2, a3, a4, a5, a6, a7, a8, a9, a10, a11, a12, a13, a14, a15, a16, a17, a18, a19, a20, a21, a22, a23, a24, a25, a26, a27, a28, a29⟩ := s'
    exact nm_r (nI_1 i) t
/-- what is counted -/
def cs_ct : cs_M → Nat → Nat
  | (T, op, fm, du, fr, nx, nu, sp, ls, q, ib, kc, kn, ct), i => ct.getD i 0
theorem cs_ctR {M : cs_M} {i : Nat} (hR : cs_R to FL FB bf bb M (f0, f1, f2, a1, a2, a3, a4, a5, a6, a7, a8, a9, a10, a11, a12, a13, a14, a15, a16, a17, a18, a19, a20, a21, a22, a23, a24, a25, a26, a27, a28, a29)) : a29 i = nI (cs_ct M i) := by
  obtain ⟨T, op, fm, du, fr, nx, nu, sp, ls, q, ib, kc, kn, ct⟩ := M
  obtain ⟨f2', a3', a4', a5', a8', a9', a13', a14', a17', a20', a22', a23', a24', a28', hO, hF, hQ, hK, hI, hB, e⟩ := hR
  have e29 : a29 = cs_v ct := congrArg (fun u : St2 => u.2.2.2.2.2.2.2.2.2.2.2.2.2.2.2.2.2.2.2.2.2.2.2.2.2.2.2.2.2.2.2) e
  rw [e29]
  rfl
theorem cs_clkR {M : cs_M} (hR : cs_R to FL FB bf bb M (f0, f1, f2, a1, a2, a3, a4, a5, a6, a7, a8, a9, a10, a11, a12, a13, a14, a15, a16, a17, a18, a19, a20, a21, a22, a23, a24, a25, a26, a27, a28, a29)) : cs_R to FL FB bf bb (cs_clk M) (f0, f1 + 1, f2, a1, a2, a3, a4, a5, a6, a7, a8, a9, a10, a11, a12, a13, a14, a15, a16, a17, a18, a19, a20, a21, a22, a23, a24, a25, a26, a27, a28, a29) := by
  obtain ⟨T, op, fm, du, fr, nx, nu, sp, ls, q, ib, kc, kn, ct⟩ := M
  obtain ⟨f2', a3', a4', a5', a8', a9', a13', a14', a17', a20', a22', a23', a24', a28', hO, hF, hQ, hK, hI, hB, e⟩ := hR
  have e1 := congrArg (fun u : St2 => (u.1, u.2.1 + 1, u.2.2)) e
  dsimp only at e1
  rw [nI_1] at e1
  rw [e1]
  exact cs_Rmk hO hF hQ hK hI hB
theorem cs_passR {post : Int32 → St2 → Prop} {m : Nat} {M : cs_M} {u : St2} (hFL : cs_FLok FL) (ht : to < 4) (hm : m ≤ 200) (hok : ∀ i, i < m → cs_okT (cs_tk i M) = true) (hR : cs_R to FL FB bf bb M u)
    (H : ∀ u', cs_R to FL FB bf bb (cs_tk m M) u' → post (nI (cs_ct (cs_tk m M) 4) - nI (cs_ct M 4)) u') : wpX_pass post u (nI m) := by
  obtain ⟨f0, f1, f2, a1, a2, a3, a4, a5, a6, a7, a8, a9, a10, a11, a12, a13, a14, a15, a16, a17, a18, a19, a20, a21, a22, a23, a24, a25, a26, a27, a28, a29⟩ := u
  have e4 := cs_ctR (i := 4) hR
  refine br_f (nI_pos (by omega)) (br_t (nI_le (b := 200) hm (by omega)) (nm_r e4 ?_))
  refine pk_loop (fun n i s => wX_pass_22 post (nI m) (nI (cs_ct M 4)) n (nI i) s.1 s.2.1 s.2.2.1 s.2.2.2.1 s.2.2.2.2.1 s.2.2.2.2.2.1 s.2.2.2.2.2.2.1 s.2.2.2.2.2.2.2.1 s.2.2.2.2.2.2.2.2.1 s.2.2.2.2.2.2.2.2.2.1 s.2.2.2.2.2.2.2.2.2.2.1 s.2.2.2.2.2.2.2.2.2.2.2.1 s.2.2.2.2.2.2.2.2.2.2.2.2.1 s.2.2.2.2.2.2.2.2.2.2.2.2.2.1 s.2.2.2.2.2.2.2.2.2.2.2.2.2.2.1 s.2.2.2.2.2.2.2.2.2.2.2.2.2.2.2.1 s.2.2.2.2.2.2.2.2.2.2.2.2.2.2.2.2.1 s.2.2.2.2.2.2.2.2.2.2.2.2.2.2.2.2.2.1 s.2.2.2.2.2.2.2.2.2.2.2.2.2.2.2.2.2.2.1 s.2.2.2.2.2.2.2.2.2.2.2.2.2.2.2.2.2.2.2.1 s.2.2.2.2.2.2.2.2.2.2.2.2.2.2.2.2.2.2.2.2.1 s.2.2.2.2.2.2.2.2.2.2.2.2.2.2.2.2.2.2.2.2.2.1 s.2.2.2.2.2.2.2.2.2.2.2.2.2.2.2.2.2.2.2.2.2.2.1 s.2.2.2.2.2.2.2.2.2.2.2.2.2.2.2.2.2.2.2.2.2.2.2.1 s.2.2.2.2.2.2.2.2.2.2.2.2.2.2.2.2.2.2.2.2.2.2.2.2.1 s.2.2.2.2.2.2.2.2.2.2.2.2.2.2.2.2.2.2.2.2.2.2.2.2.2.1 s.2.2.2.2.2.2.2.2.2.2.2.2.2.2.2.2.2.2.2.2.2.2.2.2.2.2.1 s.2.2.2.2.2.2.2.2.2.2.2.2.2.2.2.2.2.2.2.2.2.2.2.2.2.2.2.1 s.2.2.2.2.2.2.2.2.2.2.2.2.2.2.2.2.2.2.2.2.2.2.2.2.2.2.2.2.1 s.2.2.2.2.2.2.2.2.2.2.2.2.2.2.2.2.2.2.2.2.2.2.2.2.2.2.2.2.2.1 s.2.2.2.2.2.2.2.2.2.2.2.2.2.2.2.2.2.2.2.2.2.2.2.2.2.2.2.2.2.2.1 s.2.2.2.2.2.2.2.2.2.2.2.2.2.2.2.2.2.2.2.2.2.2.2.2.2.2.2.2.2.2.2) (fun i s => cs_R to FL FB bf bb (cs_tk i M) s) m 0 (f0, f1, f2, a1, a2, a3, a4, a5, a6, a7, a8, a9, a10, a11, a12, a13, a14, a15, a16, a17, a18, a19, a20, a21, a22, a23, a24, a25, a26, a27, a28, a29) (by omega) hR (fun n s h => ?_) (fun n i s hi h hw => ?_)
  · obtain ⟨f0, f1, f2, a1, a2, a3, a4, a5, a6, a7, a8, a9, a10, a11, a12, a13, a14, a15, a16, a17, a18, a19, a20, a21, a22, a23, a24, a25, a26, a27, a28, a29⟩ := s
    refine pk_le m m (fun _ => ?_) (fun z => absurd z (by omega))
    show post (a29 4 - nI (cs_ct M 4)) (f0, f1, f2, a1, a2, a3, a4, a5, a6, a7, a8, a9, a10, a11, a12, a13, a14, a15, a16, a17, a18, a19, a20, a21, a22, a23, a24, a25, a26, a27, a28, a29)
    rw [cs_ctR (i := 4) h]
    exact H _ h
  · obtain ⟨f0, f1, f2, a1, a2, a3, a4, a5, a6, a7, a8, a9, a10, a11, a12, a13, a14, a15, a16, a17, a18, a19, a20, a21, a22, a23, a24, a25, a26, a27, a28, a29⟩ := s
    refine pk_le m i (fun z => absurd z (by omega)) (fun _ => nm_e ?_)
    exact cs_pass40 (u := (f0, f1 + 1, f2, a1, a2, a3, a4, a5, a6, a7, a8, a9, a10, a11, a12, a13, a14, a15, a16, a17, a18, a19, a20, a21, a22, a23, a24, a25, a26, a27, a28, a29)) hFL ht (cs_okTe (hok i hi)) (cs_clkR h) (fun s' h' => hw s' h')
end
end
section
/-! the calls of the law, against the picture -/
section
variable {f0 f1 f2 : Int32} {a1 a2 a3 a4 a5 a6 a7 a8 a9 a10 a11 a12 a13 a14 a15 a16 a17 a18 a19 a20 a21 a22 a23 a24 a25 a26 a27 a28 a29 : Nat → Int32}
variable {T : Nat} {op fm du fr nx nu sp ls : List Nat} {q : List (Nat × Nat × Nat)} {ib : List (Nat × Nat)} {kc kn ct : List Nat}
variable {to bf : Nat} {FL : Nat → Nat → Nat} {FB : Nat → Nat → Nat → Int32} {bb : Nat → Int32}
def cs_opM : cs_M → Nat → Nat
  | (T, op, fm, du, fr, nx, nu, sp, ls, q, ib, kc, kn, ct), c => op.getD c 0
def cs_frM : cs_M → Nat → Nat
  | (T, op, fm, du, fr, nx, nu, sp, ls, q, ib, kc, kn, ct), c => fr.getD c 0
def cs_nuM : cs_M → Nat → Nat
  | (T, op, fm, du, fr, nx, nu, sp, ls, q, ib, kc, kn, ct), c => nu.getD c 0
def cs_qM : cs_M → List (Nat × Nat × Nat)
  | (T, op, fm, du, fr, nx, nu, sp, ls, q, ib, kc, kn, ct) => q
def cs_ibM : cs_M → List (Nat × Nat)
  | (T, op, fm, du, fr, nx, nu, sp, ls, q, ib, kc, kn, ct) => ib
def cs_TM : cs_M → Nat
  | (T, op, fm, du, fr, nx, nu, sp, ls, q, ib, kc, kn, ct) => T
theorem cs_waitingR {post : Int32 → Prop} {M : cs_M} {u : St2} {c : Nat} (hc : c < 8) (ho : cs_opM M c = 1) (hR : cs_R to FL FB bf bb M u) (H : post (nI (cs_frM M c))) : wpX_waiting post u (nI c) := by
  obtain ⟨T, op, fm, du, fr, nx, nu, sp, ls, q, ib, kc, kn, ct⟩ := M
  obtain ⟨f2, a3, a4, a5, a8, a9, a13, a14, a17, a20, a22, a23, a24, a28, hO, hF, hQ, hK, hI, hB, rfl⟩ := hR
  have ho' : op.getD c 0 = 1 := ho
  unfold wpX_waiting
  refine cs_isCircuit hc (br_f (by decide) ⟨pk_in c 8 hc, br_f ?_ ⟨pk_in c 8 hc, ?_⟩⟩)
  · rw [cs_vc (by omega), ho']
    decide
  · rw [cs_vc (by omega)]
    exact H
theorem cs_countedR {post : Int32 → Prop} {M : cs_M} {u : St2} {i : Nat} (hi : i < 7) (hR : cs_R to FL FB bf bb M u) (H : post (nI (cs_ct M i))) : wpX_counted post u (nI i) := by
  obtain ⟨T, op, fm, du, fr, nx, nu, sp, ls, q, ib, kc, kn, ct⟩ := M
  obtain ⟨f2, a3, a4, a5, a8, a9, a13, a14, a17, a20, a22, a23, a24, a28, hO, hF, hQ, hK, hI, hB, rfl⟩ := hR
  refine br_f (nI_pos (by omega)) (br_t (nI_le (b := 6) (by omega) (by omega)) ⟨pk_in i 7 hi, ?_⟩)
  rw [cs_vc (by omega)]
  exact H
theorem cs_queuedR {post : Int32 → Prop} {M : cs_M} {u : St2} (ht : to < 4) (hR : cs_R to FL FB bf bb M u) (H : post (nI (cs_qM M).length)) : wpX_queued post u (nI to) := by
  obtain ⟨T, op, fm, du, fr, nx, nu, sp, ls, q, ib, kc, kn, ct⟩ := M
  obtain ⟨f2, a3, a4, a5, a8, a9, a13, a14, a17, a20, a22, a23, a24, a28, hO, hF, hQ, hK, hI, hB, rfl⟩ := hR
  unfold wpX_queued
  refine cs_isStation ht (br_f (by decide) ⟨pk_in to 4 ht, ?_⟩)
  rw [nI_clamp (by omega), cs_oe]
  exact H
theorem cs_queuedN {post : Int32 → Prop} {M : cs_M} {u : St2} {s : Nat} (hs : s < 4) (hst : s ≠ to) (hR : cs_R to FL FB bf bb M u) (H : post 0) : wpX_queued post u (nI s) := by
  obtain ⟨T, op, fm, du, fr, nx, nu, sp, ls, q, ib, kc, kn, ct⟩ := M
  obtain ⟨f2, a3, a4, a5, a8, a9, a13, a14, a17, a20, a22, a23, a24, a28, hO, hF, hQ, hK, hI, hB, rfl⟩ := hR
  unfold wpX_queued
  refine cs_isStation hs (br_f (by decide) ⟨pk_in s 4 hs, ?_⟩)
  rw [nI_clamp (by omega), cs_on hst]
  exact H
theorem cs_inboxR {post : Int32 → Prop} {M : cs_M} {u : St2} (ht : to < 4) (hR : cs_R to FL FB bf bb M u) (H : post (nI (cs_ibM M).length)) : wpX_inbox post u (nI to) := by
  obtain ⟨T, op, fm, du, fr, nx, nu, sp, ls, q, ib, kc, kn, ct⟩ := M
  obtain ⟨f2, a3, a4, a5, a8, a9, a13, a14, a17, a20, a22, a23, a24, a28, hO, hF, hQ, hK, hI, hB, rfl⟩ := hR
  unfold wpX_inbox
  refine cs_isStation ht (br_f (by decide) ⟨pk_in to 4 ht, ?_⟩)
  rw [nI_clamp (by omega), cs_oe]
  exact H
theorem cs_timeR {post : Int32 → Prop} {M : cs_M} {u : St2} (hR : cs_R to FL FB bf bb M u) (H : post (nI (cs_TM M))) : wpX_time post u := by
  obtain ⟨T, op, fm, du, fr, nx, nu, sp, ls, q, ib, kc, kn, ct⟩ := M
  obtain ⟨f2, a3, a4, a5, a8, a9, a13, a14, a17, a20, a22, a23, a24, a28, hO, hF, hQ, hK, hI, hB, rfl⟩ := hR
  exact H
theorem cs_firstR {post : Int32 → Prop} {M : cs_M} {u : St2} {c n : Nat} {l : List (Nat × Nat)} (ht : to < 4) (hl : (cs_ibM M).length ≤ 4) (hib : cs_ibM M = (c, n) :: l) (hR : cs_R to FL FB bf bb M u) (H : post (nI (32 * c + FL c n))) : wpX_first post u (nI to) := by
  obtain ⟨T, op, fm, du, fr, nx, nu, sp, ls, q, ib, kc, kn, ct⟩ := M
  obtain ⟨f2, a3, a4, a5, a8, a9, a13, a14, a17, a20, a22, a23, a24, a28, hO, hF, hQ, hK, hI, hB, rfl⟩ := hR
  have hib' : ib = (c, n) :: l := hib
  have hl' : ib.length ≤ 4 := hl
  have h := hI 0 c n (by rw [hib']; rfl)
  have e4 : (4 : Int32) * nI to = nI (4 * to) := pk_mul 4 to
  have ec : (nI (4 * to)).toNatClampNeg = 4 * to := nI_clamp (by omega)
  unfold wpX_first
  refine cs_isStation ht (br_f (by decide) ⟨pk_in to 4 ht, br_f ?_ ⟨pk_in _ 16 (by omega) e4, pk_in _ 16 (by omega) e4, ?_⟩⟩)
  · rw [nI_clamp (by omega), cs_oe]
    exact nI_ne0 (by rw [hib']; simp) (by omega)
  · rw [e4, ec, ← Nat.add_zero (4 * to), h.1, h.2.1]
    have e : (32 : Int32) * nI c + nI (FL c n) = nI (32 * c + FL c n) := cs_ma 32 c (FL c n)
    rw [e]
    exact H
theorem cs_byteOfR {post : Int32 → Prop} {M : cs_M} {u : St2} {c n i : Nat} {l : List (Nat × Nat)} (hFL : cs_FLok FL) (ht : to < 4) (hl : (cs_ibM M).length ≤ 4) (hib : cs_ibM M = (c, n) :: l) (hi : i < FL c n) (hR : cs_R to FL FB bf bb M u) (H : post (FB c n i)) : wpX_byteOf post u (nI to) (nI i) := by
  obtain ⟨T, op, fm, du, fr, nx, nu, sp, ls, q, ib, kc, kn, ct⟩ := M
  obtain ⟨f2, a3, a4, a5, a8, a9, a13, a14, a17, a20, a22, a23, a24, a28, hO, hF, hQ, hK, hI, hB, rfl⟩ := hR
  have hib' : ib = (c, n) :: l := hib
  have hl' : ib.length ≤ 4 := hl
  have h := hI 0 c n (by rw [hib']; rfl)
  rw [Nat.add_zero] at h
  have hL := hFL c n
  have e5 : (27 : Int32) * nI (4 * to) + nI i = nI (27 * (4 * to) + i) := cs_ma 27 (4 * to) i
  have ec : (nI (4 * to)).toNatClampNeg = 4 * to := nI_clamp (by omega)
  unfold wpX_byteOf
  refine cs_isStation ht (br_f (by decide) (nm_r (pk_mul 4 to) ⟨pk_in to 4 ht, br_f ?_ (br_f (nI_pos (by omega)) ⟨pk_in (4 * to) 16 (by omega), ?_⟩)⟩))
  · rw [nI_clamp (by omega), cs_oe]
    exact nI_ne0 (by rw [hib']; simp) (by omega)
  · rw [ec, h.2.1]
    refine pk_lt i (FL c n) (fun _ => ⟨pk_in _ 432 (by omega) e5, ?_⟩) (fun z => absurd z (by omega))
    rw [e5, nI_clamp (by omega), h.2.2 i hi]
    exact H
theorem cs_take_86 {post : Int32 → St2 → Prop} {s m : Nat} {x2 : Int32} (hs : s < 4) (hm : m < 4) (h21 : a21 s = nI m) (H : post x2 (f0, f1, f2, a1, a2, a3, a4, a5, a6, a7, a8, a9, a10, a11, a12, a13, a14, a15, a16, a17, a18, a19, a20, a21, a22, a23, cs_sh a24 (27 * (4 * s)) 27 (27 * m), a25, a26, a27, a28, a29)) : ∃ n, wX_take_86 post (nI s) x2 (nI (4 * s)) f0 f1 f2 n (nI (27 * (4 * s))) a1 a2 a3 a4 a5 a6 a7 a8 a9 a10 a11 a12 a13 a14 a15 a16 a17 a18 a19 a20 a21 a22 a23 a24 a25 a26 a27 a28 a29 := by
  have e : (27 : Int32) * (nI (4 * s) + a21 (nI s).toNatClampNeg) = nI (27 * (4 * s) + 27 * m) := by
    rw [nI_clamp (by omega), h21, nI_add, show 27 * (4 * s) + 27 * m = 27 * (4 * s + m) by omega]
    exact pk_mul 27 _
  refine cs_lp (fun n i a => wX_take_86 post (nI s) x2 (nI (4 * s)) f0 f1 f2 n (nI (27 * (4 * s) + i)) a1 a2 a3 a4 a5 a6 a7 a8 a9 a10 a11 a12 a13 a14 a15 a16 a17 a18 a19 a20 a21 a22 a23 a a25 a26 a27 a28 a29) (fun i => cs_sh a24 (27 * (4 * s)) 27 i) (27 * m) a24 (cs_sh0 _ _ _) (fun n => ?_) (fun n i hi hw => ?_)
  · exact And.intro (pk_in s 4 hs) (pk_le (27 * (4 * s) + 27 * m) (27 * (4 * s) + 27 * m) (fun _ => H) (fun z => absurd z (by omega)) e)
  · have e2 : nI (27 * (4 * s) + i) + 27 = nI (27 * (4 * s) + i + 27) := nI_add _ 27
    refine And.intro (pk_in s 4 hs) (pk_le (27 * (4 * s) + 27 * m) (27 * (4 * s) + i) (fun z => absurd z (by omega)) (fun _ => ⟨pk_in _ 432 (by omega) e2, pk_in (27 * (4 * s) + i) 432 (by omega), nm_r ?_ (nm_r (nI_1 _) hw)⟩) e)
    rw [e2, nI_clamp (by omega), nI_clamp (by omega)]
    exact cs_shs a24 (27 * (4 * s)) 27 i (by omega)
theorem cs_take_29 {post : Int32 → St2 → Prop} {s m : Nat} {x2 : Int32} (hs : s < 4) (hm : m < 4) (h21 : a21 s = nI m) (H : post x2 (f0, f1, f2, a1, a2, a3, a4, a5, a6, a7, a8, a9, a10, a11, a12, a13, a14, a15, a16, a17, a18, a19, a20, a21, cs_sh a22 (4 * s) 1 m, cs_sh a23 (4 * s) 1 m, cs_sh a24 (27 * (4 * s)) 27 (27 * m), a25, a26, a27, a28, a29)) : ∃ n, wX_take_29 post (nI s) x2 (nI (4 * s)) f0 f1 f2 n (nI (4 * s)) a1 a2 a3 a4 a5 a6 a7 a8 a9 a10 a11 a12 a13 a14 a15 a16 a17 a18 a19 a20 a21 a22 a23 a24 a25 a26 a27 a28 a29 := by
  have e : nI (4 * s) + a21 (nI s).toNatClampNeg = nI (4 * s + m) := by
    rw [nI_clamp (by omega), h21, nI_add]
  refine cs_lp (fun n i (a : (Nat → Int32) × (Nat → Int32)) => wX_take_29 post (nI s) x2 (nI (4 * s)) f0 f1 f2 n (nI (4 * s + i)) a1 a2 a3 a4 a5 a6 a7 a8 a9 a10 a11 a12 a13 a14 a15 a16 a17 a18 a19 a20 a21 (a.1) (a.2) a24 a25 a26 a27 a28 a29) (fun i => (cs_sh a22 (4 * s) 1 i, cs_sh a23 (4 * s) 1 i)) m (a22, a23) (by rw [← cs_sh0, ← cs_sh0]) (fun n => ?_) (fun n i hi hw => ?_)
  · exact And.intro (pk_in s 4 hs) (pk_le (4 * s + m) (4 * s + m) (fun _ => nm_r (pk_mul 27 (4 * s)) (cs_take_86 hs hm h21 H)) (fun z => absurd z (by omega)) e)
  · have e2 : nI (4 * s + i) + 1 = nI (4 * s + i + 1) := nI_1 _
    refine And.intro (pk_in s 4 hs) (pk_le (4 * s + m) (4 * s + i) (fun z => absurd z (by omega)) (fun _ => ⟨pk_in _ 16 (by omega) e2, pk_in (4 * s + i) 16 (by omega), nm_r (e' := cs_sh a22 (4 * s) 1 (i + 1)) ?_ ⟨pk_in _ 16 (by omega) e2, pk_in (4 * s + i) 16 (by omega), nm_r (e' := cs_sh a23 (4 * s) 1 (i + 1)) ?_ (nm_r (nI_1 _) hw)⟩⟩) e)
    · rw [e2, nI_clamp (by omega), nI_clamp (by omega)]
      exact cs_shs a22 (4 * s) 1 i (by omega)
    · rw [e2, nI_clamp (by omega), nI_clamp (by omega)]
      exact cs_shs a23 (4 * s) 1 i (by omega)
theorem cs_dIt {x : Nat × Nat} (hFL : cs_FLok FL) (hI : cs_dI to FL FB (x :: ib) a22 a23 a24) : cs_dI to FL FB ib (cs_sh a22 (4 * to) 1 ib.length) (cs_sh a23 (4 * to) 1 ib.length) (cs_sh a24 (27 * (4 * to)) 27 (27 * ib.length)) := by
  intro j c n hj
  have hl : j < ib.length := by
    rcases Nat.lt_or_ge j ib.length with z | z
    · exact z
    · rw [List.getElem?_eq_none z] at hj
      exact absurd hj (by simp)
  have h := hI (j + 1) c n (by simpa using hj)
  have hL := hFL c n
  refine ⟨?_, ?_, fun i hi => ?_⟩
  · rw [cs_shi (by omega) (by omega)]
    exact h.1
  · rw [cs_shi (by omega) (by omega)]
    exact h.2.1
  · rw [cs_shi (by omega) (by omega), show 27 * (4 * to + j) + i + 27 = 27 * (4 * to + (j + 1)) + i by omega]
    exact h.2.2 i hi
/-- the inbox without its first -/
def cs_tkn : cs_M → cs_M
  | (T, op, fm, du, fr, nx, nu, sp, ls, q, ib, kc, kn, ct) => (T, op, fm, du, fr, nx, nu, sp, ls, q, ib.tail, kc, kn, ct)
theorem cs_takeR {post : Int32 → St2 → Prop} {M : cs_M} {u : St2} {c n : Nat} {l : List (Nat × Nat)} (hFL : cs_FLok FL) (ht : to < 4) (hc : c < 8) (hl : (cs_ibM M).length ≤ 4) (hib : cs_ibM M = (c, n) :: l) (hR : cs_R to FL FB bf bb M u)
    (H : ∀ u', cs_R to FL FB bf bb (cs_tkn M) u' → post (nI (32 * c + FL c n)) u') : wpX_take post u (nI to) := by
  have hR0 := hR
  obtain ⟨T, op, fm, du, fr, nx, nu, sp, ls, q, ib, kc, kn, ct⟩ := M
  obtain ⟨f2, a3, a4, a5, a8, a9, a13, a14, a17, a20, a22, a23, a24, a28, hO, hF, hQ, hK, hI, hB, rfl⟩ := hR
  have hib' : ib = (c, n) :: l := hib
  subst hib'
  have hl' : l.length + 1 ≤ 4 := hl
  have hL := hFL c n
  unfold wpX_take
  refine cs_firstR ht hl hib hR0 (br_t (nI_pos' (by omega)) ⟨pk_in to 4 ht, pk_in to 4 ht, nm_r (e' := cs_o to l.length) ?_ (nm_r (pk_mul 4 to) ?_)⟩)
  · rw [nI_clamp (by omega), cs_oe, List.length_cons, nI_pred, cs_os]
  · exact cs_take_29 ht (by omega) cs_oe (H _ (cs_Rmk hO hF hQ hK (cs_dIt hFL hI) hB))
theorem cs_runR {post : Int32 → St2 → Prop} {M : cs_M} {u : St2} {m : Nat} {x1 x2 : Int32} (hm : m ≤ 27) (hR : cs_R to FL FB 0 bb M u)
    (H : ∀ u', cs_R to FL FB m (fun i => (x1 + x2 * nI i) &&& 255) M u' → post (nI m) u') : wpX_run post u x1 x2 (nI m) := by
  obtain ⟨T, op, fm, du, fr, nx, nu, sp, ls, q, ib, kc, kn, ct⟩ := M
  obtain ⟨f2, a3, a4, a5, a8, a9, a13, a14, a17, a20, a22, a23, a24, a28, hO, hF, hQ, hK, hI, hB, rfl⟩ := hR
  refine br_t (nI_pos' (by omega)) (br_t (nI_le (b := 27) hm (by omega)) ?_)
  refine cs_lp (fun n i a => wX_run_23 post x1 x2 (nI m) (nI T) f2 n (nI i) (nI i) (cs_v op) (cs_v fm) a3 a4 a5 (cs_v du) (cs_v fr) a8 a9 (cs_v nx) (cs_v nu) (cs_w sp) a a14 (cs_v ls) (fun _ => 0) a17 (fun _ => 0) (cs_o to q.length) a20 (cs_o to ib.length) a22 a23 a24 (cs_v kc) (fun _ => 0) (cs_v kn) a28 (cs_v ct)) (fun i => va_cpy (fun i => (x1 + x2 * nI i) &&& 255) a13 0 0 i) m a13 (cs_cp0 _ _ _ _) (fun n => ?_) (fun n i hi hw => ?_)
  · refine pk_le m m (fun _ => H _ (cs_Rmk hO hF hQ hK hI (fun i hi => ?_))) (fun z => absurd z (by omega))
    rw [pk_cpy_in (by omega) (by omega), Nat.sub_zero, Nat.zero_add]
  · refine pk_le m i (fun z => absurd z (by omega)) (fun _ => ⟨pk_in i 27 (by omega), nm_r ?_ (nm_r (nI_1 i) (nm_r (nI_1 i) hw))⟩)
    rw [nI_clamp (by omega)]
    have g := cs_cp (fun i => (x1 + x2 * nI i) &&& 255) a13 0 0 i
    rw [Nat.zero_add] at g
    exact g
def cs_pst (c : Nat) : cs_M → cs_M
  | (T, op, fm, du, fr, nx, nu, sp, ls, q, ib, kc, kn, ct) => (T, op, fm, du, fr.set c (fr.getD c 0 + 1), nx, nu, sp, ls, q, ib, kc, kn, ct)
theorem cs_dFp {c : Nat} (hc : c < 8) (h8 : fr.length = 8) (hFL : cs_FLok FL) (hb : ∀ c, c < 8 → fr.getD c 0 ≤ 2) (hc1 : fr.getD c 0 < 2) (hbf : bf = FL c (nu.getD c 0 + fr.getD c 0)) (hbb : ∀ i, i < bf → a13 i = FB c (nu.getD c 0 + fr.getD c 0) i) (hF : cs_dF FL FB fr nu a8 a9) :
    cs_dF FL FB (fr.set c (fr.getD c 0 + 1)) nu (upd a8 (2 * c + fr.getD c 0) (nI bf)) (va_cpy a13 a9 0 (27 * (2 * c + fr.getD c 0)) bf) := by
  intro d hd j hj
  rw [cs_gs (by omega)] at hj
  have h27 := (hFL c (nu.getD c 0 + fr.getD c 0)).2.1
  have h27' := (hFL d (nu.getD d 0 + j)).2.1
  by_cases e : d = c
  · subst e
    rw [if_pos rfl] at hj
    by_cases y : j = fr.getD d 0
    · subst y
      refine ⟨by rw [pk_us, hbf], fun i hi => ?_⟩
      rw [pk_cpy_in (by omega) (by omega), show 0 + (27 * (2 * d + fr.getD d 0) + i - 27 * (2 * d + fr.getD d 0)) = i by omega]
      exact hbb i (by omega)
    · have f := hF d hd j (by omega)
      refine ⟨by rw [pk_un (by omega)]; exact f.1, fun i hi => ?_⟩
      rw [pk_cpy_out (by omega)]
      exact f.2 i hi
  · rw [if_neg e] at hj
    have f := hF d hd j hj
    have h2 := hb d hd
    refine ⟨by rw [pk_un (by omega)]; exact f.1, fun i hi => ?_⟩
    rw [pk_cpy_out (by omega)]
    exact f.2 i hi
theorem cs_postR {post : Int32 → St2 → Prop} {M : cs_M} {u : St2} {c : Nat} (hFL : cs_FLok FL) (hc : c < 8) (hwf : cs_wf M = true) (ho : cs_opM M c = 1) (hf : cs_frM M c < 2) (hbf : bf = FL c (cs_nuM M c + cs_frM M c)) (hbb : ∀ i, i < bf → bb i = FB c (cs_nuM M c + cs_frM M c) i) (hR : cs_R to FL FB bf bb M u)
    (H : ∀ u', cs_R to FL FB 0 bb (cs_pst c M) u' → post (nI (cs_cl c)) u') : wpX_post post u (nI c) := by
  obtain ⟨T, op, fm, du, fr, nx, nu, sp, ls, q, ib, kc, kn, ct⟩ := M
  obtain ⟨f2, a3, a4, a5, a8, a9, a13, a14, a17, a20, a22, a23, a24, a28, hO, hF, hQ, hK, hI, hB, rfl⟩ := hR
  obtain ⟨⟨hT, l1, l2, l3, l4, l5, l6, l7, l8, l9, l10, hq, hib⟩, hall, hls⟩ := cs_wfe hwf
  have ho' : op.getD c 0 = 1 := ho
  have hf' : fr.getD c 0 < 2 := hf
  have hbf' : bf = FL c (nu.getD c 0 + fr.getD c 0) := hbf
  have hL := hFL c (nu.getD c 0 + fr.getD c 0)
  rw [← hbf'] at hL
  have ef : cs_v fr (nI c).toNatClampNeg = nI (fr.getD c 0) := cs_vc (by omega)
  unfold wpX_post
  refine cs_isCircuit hc (br_f (by decide) ⟨pk_in c 8 hc, br_f ?_ (br_f (nI_ne0 (by omega) (by omega)) ⟨pk_in c 8 hc, ?_⟩)⟩)
  · rw [cs_vc (by omega), ho']
    decide
  · refine pk_lt (fr.getD c 0) 2 (fun _ => ⟨pk_in c 8 hc, nm_r (e' := nI (2 * c + fr.getD c 0)) (by rw [ef]; exact cs_ma 2 c _) ⟨pk_in (2 * c + fr.getD c 0) 16 (by omega), nm_r (e' := upd a8 (2 * c + fr.getD c 0) (nI bf)) (by rw [nI_clamp (by omega)]) ?_⟩⟩) (fun z => absurd z (by omega)) ef
    refine cs_lp (fun n i a => wX_post_64 post (nI c) (nI (2 * c + fr.getD c 0)) (nI bf) (nI T) f2 n (nI i) (cs_v op) (cs_v fm) a3 a4 a5 (cs_v du) (cs_v fr) (upd a8 (2 * c + fr.getD c 0) (nI bf)) a (cs_v nx) (cs_v nu) (cs_w sp) a13 a14 (cs_v ls) (fun _ => 0) a17 (fun _ => 0) (cs_o to q.length) a20 (cs_o to ib.length) a22 a23 a24 (cs_v kc) (fun _ => 0) (cs_v kn) a28 (cs_v ct)) (fun i => va_cpy a13 a9 0 (27 * (2 * c + fr.getD c 0)) i) bf a9 (cs_cp0 _ _ _ _) (fun n => ?_) (fun n i hi hw => ?_)
    · refine pk_le bf bf (fun _ => ⟨pk_in c 8 hc, pk_in c 8 hc, nm_r (e' := cs_v (fr.set c (fr.getD c 0 + 1))) (by rw [ef, nI_clamp (by omega), nI_1, cs_vs (by omega)]) (cs_cellsOf (by omega) ?_)⟩) (fun z => absurd z (by omega))
      rw [hL.2.2]
      refine H _ (cs_Rmk (bf := 0) hO (cs_dFp hc l3 hFL (fun d hd => (hall d hd).2.2.2.1) hf' hbf' (fun i hi => ?_) hF) hQ hK hI (fun i hi => absurd hi (by omega)))
      rw [hB i hi]
      exact hbb i hi
    · have e2 : (27 : Int32) * nI (2 * c + fr.getD c 0) + nI i = nI (27 * (2 * c + fr.getD c 0) + i) := cs_ma 27 _ i
      refine pk_le bf i (fun z => absurd z (by omega)) (fun _ => ⟨pk_in i 27 (by omega), pk_in _ 432 (by omega) e2, nm_r ?_ (nm_r (nI_1 i) hw)⟩)
      rw [e2, nI_clamp (by omega), nI_clamp (by omega)]
      have g := cs_cp a13 a9 0 (27 * (2 * c + fr.getD c 0)) i
      rw [Nat.zero_add] at g
      exact g
theorem cs_postF {post : Int32 → St2 → Prop} {M : cs_M} {u : St2} {c : Nat} (hc : c < 8) (hb : 1 ≤ bf) (hb2 : bf < 1000) (ho : cs_opM M c = 1) (hf : cs_frM M c = 2) (hR : cs_R to FL FB bf bb M u) (H : post (-3) u) : wpX_post post u (nI c) := by
  obtain ⟨T, op, fm, du, fr, nx, nu, sp, ls, q, ib, kc, kn, ct⟩ := M
  obtain ⟨f2, a3, a4, a5, a8, a9, a13, a14, a17, a20, a22, a23, a24, a28, hO, hF, hQ, hK, hI, hB, rfl⟩ := hR
  have ho' : op.getD c 0 = 1 := ho
  have hf' : fr.getD c 0 = 2 := hf
  unfold wpX_post
  refine cs_isCircuit hc (br_f (by decide) ⟨pk_in c 8 hc, br_f ?_ (br_f (nI_ne0 (by omega) (by omega)) ⟨pk_in c 8 hc, br_f ?_ H⟩)⟩)
  · rw [cs_vc (by omega), ho']
    decide
  · rw [cs_vc (by omega), hf']
    decide
def cs_opn (c s : Nat) : cs_M → cs_M
  | (T, op, fm, du, fr, nx, nu, sp, ls, q, ib, kc, kn, ct) => (T, op.set c 1, fm.set c s, du.set c 0, fr.set c 0, nx.set c 0, nu, sp.set c 0, ls, q, ib, kc.set c 0, kn, ct)
/-- lengths alone -/
def cs_ln : cs_M → Bool
  | (T, op, fm, du, fr, nx, nu, sp, ls, q, ib, kc, kn, ct) => decide (op.length = 8 ∧ fm.length = 8 ∧ du.length = 8 ∧ fr.length = 8 ∧ nx.length = 8 ∧ nu.length = 8 ∧ sp.length = 8 ∧ kc.length = 8)
theorem cs_dF0 {c : Nat} (h8 : c < fr.length) (hF : cs_dF FL FB fr nu a8 a9) : cs_dF FL FB (fr.set c 0) nu a8 a9 := by
  intro d hd j hj
  rw [cs_gs h8] at hj
  by_cases e : d = c
  · rw [if_pos e] at hj
    exact absurd hj (by omega)
  · rw [if_neg e] at hj
    exact hF d hd j hj
theorem cs_dK0 {c : Nat} (h8 : c < kc.length) (hK : cs_dK FL FB kc kn a28) : cs_dK FL FB (kc.set c 0) kn a28 := by
  intro d hd i hi
  rw [cs_gs h8] at hi
  by_cases e : d = c
  · rw [if_pos e] at hi
    exact absurd hi (by omega)
  · rw [if_neg e] at hi
    exact hK d hd i hi
theorem cs_dO1 {c : Nat} (h8 : c < op.length) (hO : cs_dO to op a3 a4 a5) : cs_dO to (op.set c 1) (upd a3 c (nI to)) (upd a4 c 1) (upd a5 c 40) := by
  intro d hd h
  rw [cs_gs h8] at h
  by_cases e : d = c
  · rw [e]
    exact ⟨pk_us, pk_us, pk_us⟩
  · rw [if_neg e] at h
    rw [pk_un e, pk_un e, pk_un e]
    exact hO d hd h
theorem cs_openR {post : Int32 → St2 → Prop} {M : cs_M} {u : St2} {c s : Nat} (ht : to < 4) (hc : c < 8) (hs : s < 4) (hln : cs_ln M = true) (ho : cs_opM M c = 0) (hR : cs_R to FL FB bf bb M u)
    (H : ∀ u', cs_R to FL FB bf bb (cs_opn c s M) u' → post 0 u') : wpX_open post u (nI c) (nI (4 * s + to)) 1 40 := by
  obtain ⟨T, op, fm, du, fr, nx, nu, sp, ls, q, ib, kc, kn, ct⟩ := M
  obtain ⟨f2, a3, a4, a5, a8, a9, a13, a14, a17, a20, a22, a23, a24, a28, hO, hF, hQ, hK, hI, hB, rfl⟩ := hR
  obtain ⟨l1, l2, l3, l4, l5, l6, l7, l8⟩ := of_decide_eq_true hln
  have ho' : op.getD c 0 = 0 := ho
  have e : (nI c).toNatClampNeg = c := nI_clamp (by omega)
  have e1 : nI (4 * s + to) / 4 = nI s := by
    have h : nI (4 * s + to) / nI 4 = nI ((4 * s + to) / 4) := pk_div (by omega) (by omega) (by omega)
    rw [show (4 * s + to) / 4 = s by omega] at h
    exact h
  have e2 : nI (4 * s + to) - nI (4 * s + to) / 4 * 4 = nI to := by
    have h : nI (4 * s + to) - nI (4 * s + to) / nI 4 * nI 4 = nI ((4 * s + to) % 4) := pk_rem (by omega) (by omega) (by omega)
    rw [show (4 * s + to) % 4 = to by omega] at h
    exact h
  unfold wpX_open
  refine cs_isCircuit hc (br_f (by decide) (br_f (nI_pos (by omega)) (br_f (nI_nlt (b := 4 * s + to) (a := 15) (by omega) (by omega)) (br_f (by decide) (br_f (by decide) (br_f (by decide) (br_t (by decide) ⟨pk_in c 8 hc, br_t ?_ ?_⟩)))))))
  · rw [e]
    show nI (op.getD c 0) = 0
    rw [ho']
    rfl
  · refine ⟨pk_in c 8 hc, nm_r (e' := cs_v (op.set c 1)) (by rw [e]; exact cs_vs (v := 1) (by omega)) ⟨by decide, pk_in c 8 hc, nm_r (e' := cs_v (fm.set c s)) (by rw [e, e1, cs_vs (by omega)]) ⟨by decide, pk_in c 8 hc, nm_r (e' := upd a3 c (nI to)) (by rw [e, e2]) ⟨pk_in c 8 hc, nm_r (e' := upd a4 c 1) (by rw [e]) ⟨pk_in c 8 hc, nm_r (e' := upd a5 c 40) (by rw [e]) ⟨pk_in c 8 hc, nm_r (e' := cs_v (du.set c 0)) (by rw [e, cs_v0 (by omega)]) ⟨pk_in c 8 hc, nm_r (e' := cs_v (fr.set c 0)) (by rw [e, cs_v0 (by omega)]) ⟨pk_in c 8 hc, nm_r (e' := cs_v (nx.set c 0)) (by rw [e, cs_v0 (by omega)]) ⟨pk_in c 8 hc, nm_r (e' := cs_w (sp.set c 0)) (by rw [e, cs_wm (by omega)]) ?_⟩⟩⟩⟩⟩⟩⟩⟩⟩
    refine cs_forget0 hc ?_
    rw [cs_v0 (by omega)]
    exact H _ (cs_Rmk (cs_dO1 (by omega) hO) (cs_dF0 (by omega) hF) hQ (cs_dK0 (by omega) hK) hI hB)
def cs_cls (c : Nat) : cs_M → cs_M
  | (T, op, fm, du, fr, nx, nu, sp, ls, q, ib, kc, kn, ct) => if op.getD c 0 = 0 then (T, op, fm, du, fr, nx, nu, sp, ls, q, ib, kc, kn, ct) else (T, op.set c 0, fm, du, fr, nx, nu.set c (nu.getD c 0 + fr.getD c 0), sp, ls, q, ib, kc.set c 0, kn, ct)
theorem cs_closeR {post : Int32 → St2 → Prop} {M : cs_M} {u : St2} {c : Nat} (ht : to < 4) (hc : c < 8) (hln : cs_ln M = true) (ho : cs_opM M c < 2) (hf : cs_frM M c = 0) (hq : cs_qM M = []) (hR : cs_R to FL FB bf bb M u)
    (H : ∀ r u', cs_R to FL FB bf bb (cs_cls c M) u' → post r u') : wpX_close post u (nI c) := by
  have hR0 := hR
  obtain ⟨T, op, fm, du, fr, nx, nu, sp, ls, q, ib, kc, kn, ct⟩ := M
  obtain ⟨f2, a3, a4, a5, a8, a9, a13, a14, a17, a20, a22, a23, a24, a28, hO, hF, hQ, hK, hI, hB, rfl⟩ := hR
  obtain ⟨l1, l2, l3, l4, l5, l6, l7, l8⟩ := of_decide_eq_true hln
  have ho' : op.getD c 0 < 2 := ho
  have hf' : fr.getD c 0 = 0 := hf
  have hq' : q = [] := hq
  have e : (nI c).toNatClampNeg = c := nI_clamp (by omega)
  unfold wpX_close
  refine cs_isCircuit hc (br_f (by decide) ⟨pk_in c 8 hc, pk_eq (op.getD c 0) 0 (fun z => ?_) (fun z => ?_) (cs_vc (by omega)) rfl⟩)
  · have E : cs_cls c (T, op, fm, du, fr, nx, nu, sp, ls, q, ib, kc, kn, ct) = (T, op, fm, du, fr, nx, nu, sp, ls, q, ib, kc, kn, ct) := if_pos z
    rw [E] at H
    exact H _ _ hR0
  · have E : cs_cls c (T, op, fm, du, fr, nx, nu, sp, ls, q, ib, kc, kn, ct) = (T, op.set c 0, fm, du, fr, nx, nu.set c (nu.getD c 0 + fr.getD c 0), sp, ls, q, ib, kc.set c 0, kn, ct) := if_neg z
    rw [E] at H
    have h3 := (hO c hc z).1
    refine And.intro (pk_in c 8 hc) (nm_r (e' := nI to) (by rw [e, h3]) ⟨1, And.intro (pk_in to 4 ht) (br_t ?_ (br_t rfl ?_))⟩)
    · rw [nI_clamp (by omega), cs_oe, hq']
      decide
    · refine ⟨pk_in c 8 hc, nm_r (e' := cs_v (op.set c 0)) (by rw [e, cs_v0 (by omega)]) ⟨pk_in c 8 hc, pk_in c 8 hc, pk_in c 8 hc, nm_r (e' := cs_v (nu.set c (nu.getD c 0 + fr.getD c 0))) ?_ ?_⟩⟩
      · rw [e]
        show upd (cs_v nu) c (nI (nu.getD c 0) + nI (fr.getD c 0)) = _
        rw [nI_add, cs_vs (by omega)]
      · refine cs_forget0 hc ⟨pk_in c 8 hc, ?_⟩
        rw [cs_v0 (by omega)]
        refine H _ _ (cs_Rmk ?_ ?_ hQ (cs_dK0 (by omega) hK) hI hB)
        · intro d hd h
          rw [cs_gs (by omega)] at h
          by_cases y : d = c
          · rw [if_pos y] at h
            exact absurd rfl h
          · rw [if_neg y] at h
            exact hO d hd h
        · intro d hd j hj
          rw [cs_gs (by omega)]
          by_cases y : d = c
          · rw [y, hf'] at hj
            exact absurd hj (by omega)
          · rw [if_neg y]
            exact hF d hd j hj
end
end
section
/-! the pictures that the law meets, and what holds of them -/
def cs_M0 : cs_M := (0, [0, 0, 0, 0, 0, 0, 0, 0], [0, 0, 0, 0, 0, 0, 0, 0], [0, 0, 0, 0, 0, 0, 0, 0], [0, 0, 0, 0, 0, 0, 0, 0], [0, 0, 0, 0, 0, 0, 0, 0], [0, 0, 0, 0, 0, 0, 0, 0], [1, 1, 1, 1, 1, 1, 1, 1], [7, 7, 7, 7], [], [], [0, 0, 0, 0, 0, 0, 0, 0], [0, 0, 0, 0, 0, 0, 0, 0], [0, 0, 0, 0, 0, 0, 0])
def cs_OP : Nat → cs_M
  | 0 => cs_M0
  | i + 1 => cs_opn (i + 4) i (cs_opn i i (cs_OP i))
def cs_pj (i : Nat) (M : cs_M) : Nat → cs_M
  | 0 => M
  | j + 1 => cs_pst i (cs_pj i M j)
def cs_PO (k : Nat) : Nat → cs_M
  | 0 => cs_OP k
  | i + 1 => cs_pst (i + 4) (cs_pj i (cs_PO k i) 2)
def cs_ST (k t : Nat) : cs_M := cs_tk t (cs_PO k k)
def cs_EN (k : Nat) : cs_M := cs_tk 6 (cs_ST k 9)
def cs_sib (l : List (Nat × Nat)) : cs_M → cs_M
  | (T, op, fm, du, fr, nx, nu, sp, ls, q, ib, kc, kn, ct) => (T, op, fm, du, fr, nx, nu, sp, ls, q, l, kc, kn, ct)
def cs_F (k x : Nat) : Nat → cs_M
  | 0 => cs_opn 7 x (cs_cls 7 (cs_sib [] (cs_EN k)))
  | i + 1 => cs_tk 1 (cs_pst 7 (cs_F k x i))
/-- what was dropped -/
def cs_D (M : cs_M) : Nat := cs_ct M 1 + cs_ct M 2
theorem cs_c1 : ∀ i, i < 4 → cs_ln (cs_OP i) = true ∧ cs_opM (cs_OP i) i = 0 ∧ cs_ln (cs_opn i i (cs_OP i)) = true ∧ cs_opM (cs_opn i i (cs_OP i)) (i + 4) = 0 := by decide +kernel
def cs_c2aB (k i j : Nat) : Bool := decide (cs_wf (cs_pj i (cs_PO k i) j) = true ∧ cs_opM (cs_pj i (cs_PO k i) j) i = 1 ∧ cs_frM (cs_pj i (cs_PO k i) j) i = j ∧ cs_nuM (cs_pj i (cs_PO k i) j) i = 0 ∧ cs_opM (cs_pj i (cs_PO k i) (j + 1)) i = 1 ∧ cs_frM (cs_pj i (cs_PO k i) (j + 1)) i = j + 1)
theorem cs_c2at : ∀ k, k < 5 → 2 ≤ k → ∀ i, i < k → ∀ j, j < 2 → cs_c2aB k i j = true := by decide +kernel
theorem cs_c2a : ∀ k, k < 5 → 2 ≤ k → ∀ i, i < k → ∀ j, j < 2 → cs_wf (cs_pj i (cs_PO k i) j) = true ∧ cs_opM (cs_pj i (cs_PO k i) j) i = 1 ∧ cs_frM (cs_pj i (cs_PO k i) j) i = j ∧ cs_nuM (cs_pj i (cs_PO k i) j) i = 0 ∧ cs_opM (cs_pj i (cs_PO k i) (j + 1)) i = 1 ∧ cs_frM (cs_pj i (cs_PO k i) (j + 1)) i = j + 1 := fun k h1 h2 i hi j hj => of_decide_eq_true (cs_c2at k h1 h2 i hi j hj)
theorem cs_c2b : ∀ k, k < 5 → 2 ≤ k → ∀ i, i < k → cs_wf (cs_pj i (cs_PO k i) 2) = true ∧ cs_opM (cs_pj i (cs_PO k i) 2) i = 1 ∧ cs_frM (cs_pj i (cs_PO k i) 2) i = 2 ∧ cs_opM (cs_pj i (cs_PO k i) 2) (i + 4) = 1 ∧ cs_frM (cs_pj i (cs_PO k i) 2) (i + 4) = 0 ∧ cs_nuM (cs_pj i (cs_PO k i) 2) (i + 4) = 0 := by decide +kernel
theorem cs_c2 : ∀ k, k < 5 → 2 ≤ k → ∀ i, i < k → (∀ j, j < 2 → cs_wf (cs_pj i (cs_PO k i) j) = true ∧ cs_opM (cs_pj i (cs_PO k i) j) i = 1 ∧ cs_frM (cs_pj i (cs_PO k i) j) i = j ∧ cs_nuM (cs_pj i (cs_PO k i) j) i = 0 ∧ cs_opM (cs_pj i (cs_PO k i) (j + 1)) i = 1 ∧ cs_frM (cs_pj i (cs_PO k i) (j + 1)) i = j + 1)
    ∧ cs_wf (cs_pj i (cs_PO k i) 2) = true ∧ cs_opM (cs_pj i (cs_PO k i) 2) i = 1 ∧ cs_frM (cs_pj i (cs_PO k i) 2) i = 2 ∧ cs_opM (cs_pj i (cs_PO k i) 2) (i + 4) = 1 ∧ cs_frM (cs_pj i (cs_PO k i) 2) (i + 4) = 0 ∧ cs_nuM (cs_pj i (cs_PO k i) 2) (i + 4) = 0 := fun k h1 h2 i hi => ⟨cs_c2a k h1 h2 i hi, cs_c2b k h1 h2 i hi⟩
theorem cs_c3a : ∀ k, k < 5 → 2 ≤ k → ∀ t, t < 9 → cs_okT (cs_ST k t) = true ∧ cs_D (cs_ST k t) ≤ cs_D (cs_ST k (t + 1)) ∧ cs_D (cs_ST k (t + 1)) ≤ cs_D (cs_ST k t) + k ∧ (cs_qM (cs_ST k t)).length + k + cs_D (cs_ST k t) = cs_D (cs_ST k (t + 1)) + (cs_qM (cs_ST k (t + 1))).length + 1 := by decide +kernel
theorem cs_c3b : ∀ k, k < 5 → 2 ≤ k → ∀ t, t < 9 → (cs_qM (cs_ST k (t + 1))).length ≤ 6 ∧ cs_TM (cs_ST k (t + 1)) = t + 1 ∧ cs_D (cs_ST k (t + 1)) < 1000 ∧ (cs_qM (cs_ST k t)).length ≤ 6 := by decide +kernel
theorem cs_c3c : ∀ k, k < 5 → 2 ≤ k → cs_opM (cs_ST k 2) 4 = 1 ∧ cs_opM (cs_ST k 2) 0 = 1 ∧ cs_frM (cs_ST k 2) 4 = 0 ∧ cs_frM (cs_ST k 2) 0 = 2 := by decide +kernel
theorem cs_c3 : ∀ k, k < 5 → 2 ≤ k → ∀ t, t < 9 → cs_okT (cs_ST k t) = true ∧ cs_D (cs_ST k t) ≤ cs_D (cs_ST k (t + 1)) ∧ cs_D (cs_ST k (t + 1)) ≤ cs_D (cs_ST k t) + k ∧ (cs_qM (cs_ST k t)).length + k + cs_D (cs_ST k t) = cs_D (cs_ST k (t + 1)) + (cs_qM (cs_ST k (t + 1))).length + 1 ∧ (cs_qM (cs_ST k (t + 1))).length ≤ 6 ∧ cs_TM (cs_ST k (t + 1)) = t + 1 ∧ cs_D (cs_ST k (t + 1)) < 1000 ∧ (cs_qM (cs_ST k t)).length ≤ 6 ∧ (t = 1 → cs_opM (cs_ST k (t + 1)) 4 = 1 ∧ cs_opM (cs_ST k (t + 1)) 0 = 1 ∧ cs_frM (cs_ST k (t + 1)) 4 = 0 ∧ cs_frM (cs_ST k (t + 1)) 0 = 2) := by
  intro k h1 h2 t ht
  obtain ⟨p1, p2, p3, p4⟩ := cs_c3a k h1 h2 t ht
  obtain ⟨p5, p6, p7, p8⟩ := cs_c3b k h1 h2 t ht
  exact ⟨p1, p2, p3, p4, p5, p6, p7, p8, fun e => by subst e; exact cs_c3c k h1 h2⟩
theorem cs_c4 : ∀ k, k < 5 → 2 ≤ k → 9 * k = cs_D (cs_ST k 9) + 9 + (cs_qM (cs_ST k 9)).length ∧ cs_opM (cs_ST k 9) 0 = 1 ∧ cs_frM (cs_ST k 9) 0 = 0 ∧ cs_opM (cs_ST k 9) (k - 1) = 1 ∧ cs_frM (cs_ST k 9) (k - 1) = 0 ∧ cs_ct (cs_ST k 9) 0 = 0 ∧ cs_ct (cs_ST k 9) 3 = 0 ∧ (∀ i, i < 6 → cs_okT (cs_tk i (cs_ST k 9)) = true) := by decide +kernel
theorem cs_c5 : ∀ k, k < 5 → 2 ≤ k → cs_qM (cs_EN k) = [] ∧ (cs_ibM (cs_EN k)).length ≤ 4 ∧ cs_ct (cs_EN k) 4 = (cs_ibM (cs_EN k)).length ∧ cs_ct (cs_EN k) 4 + cs_ct (cs_EN k) 5 + cs_ct (cs_EN k) 6 ≤ 3 * k ∧ 1 ≤ cs_ct (cs_EN k) 4 + cs_ct (cs_EN k) 5 + cs_ct (cs_EN k) 6 ∧ (∀ x, x ∈ cs_ibM (cs_EN k) → x.1 < 7 ∧ x.2 < 10)
    ∧ cs_ln (cs_sib [] (cs_EN k)) = true ∧ cs_opM (cs_sib [] (cs_EN k)) 7 < 2 ∧ cs_frM (cs_sib [] (cs_EN k)) 7 = 0 ∧ cs_qM (cs_sib [] (cs_EN k)) = [] ∧ cs_ln (cs_cls 7 (cs_sib [] (cs_EN k))) = true ∧ cs_opM (cs_cls 7 (cs_sib [] (cs_EN k))) 7 = 0 := by decide +kernel
def cs_c6aB (k x i : Nat) : Bool := decide (cs_wf (cs_F k x i) = true ∧ cs_opM (cs_F k x i) 7 = 1 ∧ cs_frM (cs_F k x i) 7 = 0 ∧ cs_nuM (cs_F k x i) 7 = k / 4 + i)
theorem cs_c6at : ∀ k, k < 5 → 2 ≤ k → ∀ x, x < 4 → ∀ i, i < 6 → cs_c6aB k x i = true := by decide +kernel
theorem cs_c6a : ∀ k, k < 5 → 2 ≤ k → ∀ x, x < 4 → ∀ i, i < 6 → cs_wf (cs_F k x i) = true ∧ cs_opM (cs_F k x i) 7 = 1 ∧ cs_frM (cs_F k x i) 7 = 0 ∧ cs_nuM (cs_F k x i) 7 = k / 4 + i := fun k h1 h2 x hx i hi => of_decide_eq_true (cs_c6at k h1 h2 x hx i hi)
def cs_c6bB (k x i : Nat) : Bool := decide (cs_okT (cs_pst 7 (cs_F k x i)) = true ∧ cs_ct (cs_F k x (i + 1)) 4 = cs_ct (cs_pst 7 (cs_F k x i)) 4 + (if i < 4 then 1 else 0) ∧ cs_ct (cs_pst 7 (cs_F k x i)) 4 < 1000 ∧ (cs_ibM (cs_F k x (i + 1))).length = (if i < 4 then i + 1 else 4))
theorem cs_c6bt : ∀ k, k < 5 → 2 ≤ k → ∀ x, x < 4 → ∀ i, i < 6 → cs_c6bB k x i = true := by decide +kernel
theorem cs_c6b : ∀ k, k < 5 → 2 ≤ k → ∀ x, x < 4 → ∀ i, i < 6 → cs_okT (cs_pst 7 (cs_F k x i)) = true ∧ cs_ct (cs_F k x (i + 1)) 4 = cs_ct (cs_pst 7 (cs_F k x i)) 4 + (if i < 4 then 1 else 0) ∧ cs_ct (cs_pst 7 (cs_F k x i)) 4 < 1000 ∧ (cs_ibM (cs_F k x (i + 1))).length = (if i < 4 then i + 1 else 4) := fun k h1 h2 x hx i hi => of_decide_eq_true (cs_c6bt k h1 h2 x hx i hi)
theorem cs_c6 : ∀ k, k < 5 → 2 ≤ k → ∀ x, x < 4 → ∀ i, i < 6 → cs_wf (cs_F k x i) = true ∧ cs_opM (cs_F k x i) 7 = 1 ∧ cs_frM (cs_F k x i) 7 = 0 ∧ cs_nuM (cs_F k x i) 7 = k / 4 + i ∧ cs_okT (cs_pst 7 (cs_F k x i)) = true ∧ cs_ct (cs_F k x (i + 1)) 4 = cs_ct (cs_pst 7 (cs_F k x i)) 4 + (if i < 4 then 1 else 0) ∧ cs_ct (cs_pst 7 (cs_F k x i)) 4 < 1000 ∧ (cs_ibM (cs_F k x (i + 1))).length = (if i < 4 then i + 1 else 4) := by
  intro k h1 h2 x hx i hi
  obtain ⟨p1, p2, p3, p4⟩ := cs_c6a k h1 h2 x hx i hi
  exact ⟨p1, p2, p3, p4, cs_c6b k h1 h2 x hx i hi⟩
theorem cs_c7 : ∀ k, k < 5 → 2 ≤ k → ∀ x, x < 4 → cs_ct (cs_F k x 6) 6 = cs_ct (cs_F k x 0) 6 + 2 ∧ cs_ct (cs_F k x 0) 6 < 1000 ∧ cs_ibM (cs_F k x 6) = [(7, k / 4), (7, k / 4 + 1), (7, k / 4 + 2), (7, k / 4 + 3)] := by decide +kernel
end
section
/-! the law's loops, the last one first -/
def cs_FL (sz e b c n : Nat) : Nat := if c < 4 then sz else if c = 7 ∧ b ≤ n then 1 + e else 1
def cs_FB (y : Int32) (b c n i : Nat) : Int32 := if c < 4 then nI (10 * c + n + i) else if c = 7 ∧ b ≤ n then (y + nI (n - b) * nI i) &&& 255 else 1
theorem cs_FLk {sz e b : Nat} (h1 : 20 ≤ sz) (h2 : sz ≤ 27) (he : e < 2) : cs_FLok (cs_FL sz e b) := by
  intro c n
  unfold cs_FL cs_cl
  by_cases y : c < 4
  · rw [if_pos y, if_pos y]
    omega
  · rw [if_neg y, if_neg y]
    split <;> omega
theorem cs_sibt (x : Nat × Nat) (l : List (Nat × Nat)) (M : cs_M) : cs_tkn (cs_sib (x :: l) M) = cs_sib l M := by
  obtain ⟨T, op, fm, du, fr, nx, nu, sp, ls, q, ib, kc, kn, ct⟩ := M
  rfl
theorem cs_sibi (l : List (Nat × Nat)) (M : cs_M) : cs_ibM (cs_sib l M) = l := by
  obtain ⟨T, op, fm, du, fr, nx, nu, sp, ls, q, ib, kc, kn, ct⟩ := M
  rfl
theorem cs_sibs (M : cs_M) : cs_sib (cs_ibM M) M = M := by
  obtain ⟨T, op, fm, du, fr, nx, nu, sp, ls, q, ib, kc, kn, ct⟩ := M
  rfl
theorem cs_tkib (M : cs_M) : cs_ibM (cs_tkn M) = (cs_ibM M).tail := by
  obtain ⟨T, op, fm, du, fr, nx, nu, sp, ls, q, ib, kc, kn, ct⟩ := M
  rfl
/-- what is asked of the pictures of the last loop -/
def cs_H6 (k : Nat) (F : Nat → cs_M) : Prop := (∀ i, cs_tk 1 (cs_pst 7 (F i)) = F (i + 1))
  ∧ (∀ i, i < 6 → cs_wf (F i) = true ∧ cs_opM (F i) 7 = 1 ∧ cs_frM (F i) 7 = 0 ∧ cs_nuM (F i) 7 = k / 4 + i ∧ cs_okT (cs_pst 7 (F i)) = true ∧ cs_ct (F (i + 1)) 4 = cs_ct (cs_pst 7 (F i)) 4 + (if i < 4 then 1 else 0) ∧ cs_ct (cs_pst 7 (F i)) 4 < 1000 ∧ (cs_ibM (F (i + 1))).length = (if i < 4 then i + 1 else 4))
  ∧ cs_ct (F 6) 6 = cs_ct (F 0) 6 + 2 ∧ cs_ct (F 0) 6 < 1000 ∧ cs_ibM (F 6) = [(7, k / 4), (7, k / 4 + 1), (7, k / 4 + 2), (7, k / 4 + 3)]
def cs_H5 (k x : Nat) (E : cs_M) (F : Nat → cs_M) : Prop := F 0 = cs_opn 7 x (cs_cls 7 (cs_sib [] E))
  ∧ cs_qM E = [] ∧ (cs_ibM E).length ≤ 4 ∧ cs_ct E 4 = (cs_ibM E).length ∧ cs_ct E 4 + cs_ct E 5 + cs_ct E 6 ≤ 3 * k ∧ 1 ≤ cs_ct E 4 + cs_ct E 5 + cs_ct E 6 ∧ (∀ x, x ∈ cs_ibM E → x.1 < 7 ∧ x.2 < 10)
  ∧ cs_ln (cs_sib [] E) = true ∧ cs_opM (cs_sib [] E) 7 < 2 ∧ cs_frM (cs_sib [] E) 7 = 0 ∧ cs_qM (cs_sib [] E) = [] ∧ cs_ln (cs_cls 7 (cs_sib [] E)) = true ∧ cs_opM (cs_cls 7 (cs_sib [] E)) 7 = 0
section
variable {F : Nat → cs_M} {E : cs_M}
variable {post : Int32 → St0 → Prop} {mc ms kc ks to k x sz e : Nat} {x0 x1 x2 : Int32}
theorem cs_L749 {u : St2} {bb : Nat → Int32} (hp : post 1 ()) (ht : to < 4) (hk : k < 5) (hk2 : 2 ≤ k) (hH : cs_H6 k F) (hs1 : 20 ≤ sz) (hs2 : sz ≤ 27) (he2 : e < 2) (he : (x1 >>> ((8 : Int32) &&& 31)) &&& 1 = nI e)
    (hR : cs_R to (cs_FL sz e (k / 4)) (cs_FB x1 (k / 4)) 0 bb (F 0) u) : ∃ n, wL_lawOf_749 post mc ms x1 (nI to) (nI (cs_ct (F 0) 6)) kc ks n 0 u.1 u.2.1 u.2.2.1 u.2.2.2.1 u.2.2.2.2.1 u.2.2.2.2.2.1 u.2.2.2.2.2.2.1 u.2.2.2.2.2.2.2.1 u.2.2.2.2.2.2.2.2.1 u.2.2.2.2.2.2.2.2.2.1 u.2.2.2.2.2.2.2.2.2.2.1 u.2.2.2.2.2.2.2.2.2.2.2.1 u.2.2.2.2.2.2.2.2.2.2.2.2.1 u.2.2.2.2.2.2.2.2.2.2.2.2.2.1 u.2.2.2.2.2.2.2.2.2.2.2.2.2.2.1 u.2.2.2.2.2.2.2.2.2.2.2.2.2.2.2.1 u.2.2.2.2.2.2.2.2.2.2.2.2.2.2.2.2.1 u.2.2.2.2.2.2.2.2.2.2.2.2.2.2.2.2.2.1 u.2.2.2.2.2.2.2.2.2.2.2.2.2.2.2.2.2.2.1 u.2.2.2.2.2.2.2.2.2.2.2.2.2.2.2.2.2.2.2.1 u.2.2.2.2.2.2.2.2.2.2.2.2.2.2.2.2.2.2.2.2.1 u.2.2.2.2.2.2.2.2.2.2.2.2.2.2.2.2.2.2.2.2.2.1 u.2.2.2.2.2.2.2.2.2.2.2.2.2.2.2.2.2.2.2.2.2.2.1 u.2.2.2.2.2.2.2.2.2.2.2.2.2.2.2.2.2.2.2.2.2.2.2.1 u.2.2.2.2.2.2.2.2.2.2.2.2.2.2.2.2.2.2.2.2.2.2.2.2.1 u.2.2.2.2.2.2.2.2.2.2.2.2.2.2.2.2.2.2.2.2.2.2.2.2.2.1 u.2.2.2.2.2.2.2.2.2.2.2.2.2.2.2.2.2.2.2.2.2.2.2.2.2.2.1 u.2.2.2.2.2.2.2.2.2.2.2.2.2.2.2.2.2.2.2.2.2.2.2.2.2.2.2.1 u.2.2.2.2.2.2.2.2.2.2.2.2.2.2.2.2.2.2.2.2.2.2.2.2.2.2.2.2.1 u.2.2.2.2.2.2.2.2.2.2.2.2.2.2.2.2.2.2.2.2.2.2.2.2.2.2.2.2.2.1 u.2.2.2.2.2.2.2.2.2.2.2.2.2.2.2.2.2.2.2.2.2.2.2.2.2.2.2.2.2.2.1 u.2.2.2.2.2.2.2.2.2.2.2.2.2.2.2.2.2.2.2.2.2.2.2.2.2.2.2.2.2.2.2 := by
  have hFL := cs_FLk (b := k / 4) hs1 hs2 he2
  obtain ⟨hF, c6, d1, d2, d3⟩ := hH
  have em : (1 : Int32) + ((x1 >>> ((8 : Int32) &&& 31)) &&& 1) = nI (1 + e) := by rw [he]; exact nI_add 1 e
  refine pk_loop (fun n i s => wL_lawOf_749 post mc ms x1 (nI to) (nI (cs_ct (F 0) 6)) kc ks n (nI i) s.1 s.2.1 s.2.2.1 s.2.2.2.1 s.2.2.2.2.1 s.2.2.2.2.2.1 s.2.2.2.2.2.2.1 s.2.2.2.2.2.2.2.1 s.2.2.2.2.2.2.2.2.1 s.2.2.2.2.2.2.2.2.2.1 s.2.2.2.2.2.2.2.2.2.2.1 s.2.2.2.2.2.2.2.2.2.2.2.1 s.2.2.2.2.2.2.2.2.2.2.2.2.1 s.2.2.2.2.2.2.2.2.2.2.2.2.2.1 s.2.2.2.2.2.2.2.2.2.2.2.2.2.2.1 s.2.2.2.2.2.2.2.2.2.2.2.2.2.2.2.1 s.2.2.2.2.2.2.2.2.2.2.2.2.2.2.2.2.1 s.2.2.2.2.2.2.2.2.2.2.2.2.2.2.2.2.2.1 s.2.2.2.2.2.2.2.2.2.2.2.2.2.2.2.2.2.2.1 s.2.2.2.2.2.2.2.2.2.2.2.2.2.2.2.2.2.2.2.1 s.2.2.2.2.2.2.2.2.2.2.2.2.2.2.2.2.2.2.2.2.1 s.2.2.2.2.2.2.2.2.2.2.2.2.2.2.2.2.2.2.2.2.2.1 s.2.2.2.2.2.2.2.2.2.2.2.2.2.2.2.2.2.2.2.2.2.2.1 s.2.2.2.2.2.2.2.2.2.2.2.2.2.2.2.2.2.2.2.2.2.2.2.1 s.2.2.2.2.2.2.2.2.2.2.2.2.2.2.2.2.2.2.2.2.2.2.2.2.1 s.2.2.2.2.2.2.2.2.2.2.2.2.2.2.2.2.2.2.2.2.2.2.2.2.2.1 s.2.2.2.2.2.2.2.2.2.2.2.2.2.2.2.2.2.2.2.2.2.2.2.2.2.2.1 s.2.2.2.2.2.2.2.2.2.2.2.2.2.2.2.2.2.2.2.2.2.2.2.2.2.2.2.1 s.2.2.2.2.2.2.2.2.2.2.2.2.2.2.2.2.2.2.2.2.2.2.2.2.2.2.2.2.1 s.2.2.2.2.2.2.2.2.2.2.2.2.2.2.2.2.2.2.2.2.2.2.2.2.2.2.2.2.2.1 s.2.2.2.2.2.2.2.2.2.2.2.2.2.2.2.2.2.2.2.2.2.2.2.2.2.2.2.2.2.2.1 s.2.2.2.2.2.2.2.2.2.2.2.2.2.2.2.2.2.2.2.2.2.2.2.2.2.2.2.2.2.2.2) (fun i s => ∃ bb, cs_R to (cs_FL sz e (k / 4)) (cs_FB x1 (k / 4)) 0 bb (F i) s) 6 0 u (by omega) ⟨bb, hR⟩ (fun n s h => ?_) (fun n i s hi h hw => ?_)
  · obtain ⟨bb, h⟩ := h
    obtain ⟨f0, f1, f2, a1, a2, a3, a4, a5, a6, a7, a8, a9, a10, a11, a12, a13, a14, a15, a16, a17, a18, a19, a20, a21, a22, a23, a24, a25, a26, a27, a28, a29⟩ := s
    refine pk_le 6 6 (fun _ => cs_countedR (i := 6) (by omega) h (br_t ?_ (cs_takeR (c := 7) hFL ht (by omega) (by rw [d3]; simp) d3 h (fun u' h' => ?_)))) (fun z => absurd z (by omega))
    · rw [d1]
      exact (nI_add _ 2).symm
    · obtain ⟨f0, f1, f2, a1, a2, a3, a4, a5, a6, a7, a8, a9, a10, a11, a12, a13, a14, a15, a16, a17, a18, a19, a20, a21, a22, a23, a24, a25, a26, a27, a28, a29⟩ := u'
      have eb : cs_ibM (cs_tkn (F 6)) = [(7, k / 4 + 1), (7, k / 4 + 2), (7, k / 4 + 3)] := by rw [cs_tkib, d3]; rfl
      refine br_t ?_ (cs_byteOfR (i := 0) hFL ht (by rw [eb]; simp) eb ?_ h' (br_t ?_ hp))
      · have e1 : cs_FL sz e (k / 4) 7 (k / 4) = 1 + e := by
          unfold cs_FL
          rw [if_neg (by omega), if_pos (by omega)]
        rw [e1, he]
        exact (nI_add 225 e).symm ▸ by rw [show 32 * 7 + (1 + e) = 225 + e by omega]
      · exact (hFL 7 (k / 4 + 1)).1
      · unfold cs_FB
        rw [if_neg (by omega), if_pos (by omega), nI_0, Int32.mul_zero, Int32.add_zero]
  · obtain ⟨bb, h⟩ := h
    obtain ⟨f0, f1, f2, a1, a2, a3, a4, a5, a6, a7, a8, a9, a10, a11, a12, a13, a14, a15, a16, a17, a18, a19, a20, a21, a22, a23, a24, a25, a26, a27, a28, a29⟩ := s
    obtain ⟨g1, g2, g3, g4, g5, g6, g7, g8⟩ := c6 i hi
    refine pk_le 6 i (fun z => absurd z (by omega)) (fun _ => ?_)
    dsimp only
    rw [em]
    refine cs_runR (m := 1 + e) (by omega) h (fun u1 h1 => ?_)
    obtain ⟨f0, f1, f2, a1, a2, a3, a4, a5, a6, a7, a8, a9, a10, a11, a12, a13, a14, a15, a16, a17, a18, a19, a20, a21, a22, a23, a24, a25, a26, a27, a28, a29⟩ := u1
    refine cs_waitingR (c := 7) (by omega) g2 h1 (br_t (by rw [g3]; rfl) (cs_postR (c := 7) hFL (by omega) g1 g2 (by omega) ?_ (fun t _ => ?_) h1 (fun u2 h2 => ?_)))
    · rw [g3, g4]
      unfold cs_FL
      rw [if_neg (by omega), if_pos (by omega)]
    · rw [g3, g4]
      unfold cs_FB
      rw [if_neg (by omega), if_pos (by omega), show k / 4 + i + 0 - k / 4 = i by omega]
    · obtain ⟨f0, f1, f2, a1, a2, a3, a4, a5, a6, a7, a8, a9, a10, a11, a12, a13, a14, a15, a16, a17, a18, a19, a20, a21, a22, a23, a24, a25, a26, a27, a28, a29⟩ := u2
      refine br_t rfl (cs_passR (m := 1) hFL ht (by omega) (fun j hj => ?_) h2 (fun u3 h3 => ?_))
      · have ej : j = 0 := by omega
        rw [ej]
        exact g5
      · rw [hF i]
        rw [hF i] at h3
        have t := hw u3 ⟨_, h3⟩
        obtain ⟨f0, f1, f2, a1, a2, a3, a4, a5, a6, a7, a8, a9, a10, a11, a12, a13, a14, a15, a16, a17, a18, a19, a20, a21, a22, a23, a24, a25, a26, a27, a28, a29⟩ := u3
        refine pk_le 4 i (fun z => ?_) (fun z => ?_)
        · rw [if_neg (by omega)] at g6 g8
          refine br_t ?_ (cs_inboxR ht h3 (br_t (nI_le (a := 4) z (by omega)) (br_t ?_ (nm_r (nI_1 i) t))))
          · rw [g6, Nat.add_zero]
            exact pk_sub (Nat.le_refl _) |>.trans (by rw [Nat.sub_self]; rfl)
          · rw [g8]
            rfl
        · rw [if_pos z] at g6 g8
          refine br_t ?_ (cs_inboxR ht h3 (br_f (nI_ge (b := 4) z (by omega)) (br_t ?_ (nm_r (nI_1 i) t))))
          · rw [g6, pk_sub (by omega), show cs_ct (cs_pst 7 (F i)) 4 + 1 - cs_ct (cs_pst 7 (F i)) 4 = 1 by omega]
            rfl
          · rw [g8]
            exact (nI_1 i).symm
theorem cs_L677 {J : Int32 → Int32 → Int32 → Int32 → (Nat → Int32) → (Nat → Int32) → (Nat → Int32) → (Nat → Int32) → (Nat → Int32) → (Nat → Int32) → (Nat → Int32) → (Nat → Int32) → (Nat → Int32) → (Nat → Int32) → (Nat → Int32) → (Nat → Int32) → (Nat → Int32) → (Nat → Int32) → (Nat → Int32) → (Nat → Int32) → (Nat → Int32) → (Nat → Int32) → (Nat → Int32) → (Nat → Int32) → (Nat → Int32) → (Nat → Int32) → (Nat → Int32) → (Nat → Int32) → (Nat → Int32) → (Nat → Int32) → (Nat → Int32) → (Nat → Int32) → (Nat → Int32) → Prop}
    {u : St2} {bb : Nat → Int32} {c n : Nat} {l : List (Nat × Nat)} {M : cs_M} {FL : Nat → Nat → Nat} {FB : Nat → Nat → Nat → Int32} {x6 : Int32} (hFL : cs_FLok FL) (ht : to < 4) (hc : c < 8) (hl : l.length ≤ 3)
    (hR : cs_R to FL FB 0 bb (cs_sib ((c, n) :: l) M) u) (H : ∀ s, cs_R to FL FB 0 bb (cs_sib l M) s → J (nI l.length) s.1 s.2.1 s.2.2.1 s.2.2.2.1 s.2.2.2.2.1 s.2.2.2.2.2.1 s.2.2.2.2.2.2.1 s.2.2.2.2.2.2.2.1 s.2.2.2.2.2.2.2.2.1 s.2.2.2.2.2.2.2.2.2.1 s.2.2.2.2.2.2.2.2.2.2.1 s.2.2.2.2.2.2.2.2.2.2.2.1 s.2.2.2.2.2.2.2.2.2.2.2.2.1 s.2.2.2.2.2.2.2.2.2.2.2.2.2.1 s.2.2.2.2.2.2.2.2.2.2.2.2.2.2.1 s.2.2.2.2.2.2.2.2.2.2.2.2.2.2.2.1 s.2.2.2.2.2.2.2.2.2.2.2.2.2.2.2.2.1 s.2.2.2.2.2.2.2.2.2.2.2.2.2.2.2.2.2.1 s.2.2.2.2.2.2.2.2.2.2.2.2.2.2.2.2.2.2.1 s.2.2.2.2.2.2.2.2.2.2.2.2.2.2.2.2.2.2.2.1 s.2.2.2.2.2.2.2.2.2.2.2.2.2.2.2.2.2.2.2.2.1 s.2.2.2.2.2.2.2.2.2.2.2.2.2.2.2.2.2.2.2.2.2.1 s.2.2.2.2.2.2.2.2.2.2.2.2.2.2.2.2.2.2.2.2.2.2.1 s.2.2.2.2.2.2.2.2.2.2.2.2.2.2.2.2.2.2.2.2.2.2.2.1 s.2.2.2.2.2.2.2.2.2.2.2.2.2.2.2.2.2.2.2.2.2.2.2.2.1 s.2.2.2.2.2.2.2.2.2.2.2.2.2.2.2.2.2.2.2.2.2.2.2.2.2.1 s.2.2.2.2.2.2.2.2.2.2.2.2.2.2.2.2.2.2.2.2.2.2.2.2.2.2.1 s.2.2.2.2.2.2.2.2.2.2.2.2.2.2.2.2.2.2.2.2.2.2.2.2.2.2.2.1 s.2.2.2.2.2.2.2.2.2.2.2.2.2.2.2.2.2.2.2.2.2.2.2.2.2.2.2.2.1 s.2.2.2.2.2.2.2.2.2.2.2.2.2.2.2.2.2.2.2.2.2.2.2.2.2.2.2.2.2.1 s.2.2.2.2.2.2.2.2.2.2.2.2.2.2.2.2.2.2.2.2.2.2.2.2.2.2.2.2.2.2.1 s.2.2.2.2.2.2.2.2.2.2.2.2.2.2.2.2.2.2.2.2.2.2.2.2.2.2.2.2.2.2.2) :
    wL_lawOf_677 post mc ms J x0 x1 (nI to) x6 (nI (l.length + 1)) (nI (32 * c + FL c n)) kc ks u.1 u.2.1 u.2.2.1 u.2.2.2.1 u.2.2.2.2.1 u.2.2.2.2.2.1 u.2.2.2.2.2.2.1 u.2.2.2.2.2.2.2.1 u.2.2.2.2.2.2.2.2.1 u.2.2.2.2.2.2.2.2.2.1 u.2.2.2.2.2.2.2.2.2.2.1 u.2.2.2.2.2.2.2.2.2.2.2.1 u.2.2.2.2.2.2.2.2.2.2.2.2.1 u.2.2.2.2.2.2.2.2.2.2.2.2.2.1 u.2.2.2.2.2.2.2.2.2.2.2.2.2.2.1 u.2.2.2.2.2.2.2.2.2.2.2.2.2.2.2.1 u.2.2.2.2.2.2.2.2.2.2.2.2.2.2.2.2.1 u.2.2.2.2.2.2.2.2.2.2.2.2.2.2.2.2.2.1 u.2.2.2.2.2.2.2.2.2.2.2.2.2.2.2.2.2.2.1 u.2.2.2.2.2.2.2.2.2.2.2.2.2.2.2.2.2.2.2.1 u.2.2.2.2.2.2.2.2.2.2.2.2.2.2.2.2.2.2.2.2.1 u.2.2.2.2.2.2.2.2.2.2.2.2.2.2.2.2.2.2.2.2.2.1 u.2.2.2.2.2.2.2.2.2.2.2.2.2.2.2.2.2.2.2.2.2.2.1 u.2.2.2.2.2.2.2.2.2.2.2.2.2.2.2.2.2.2.2.2.2.2.2.1 u.2.2.2.2.2.2.2.2.2.2.2.2.2.2.2.2.2.2.2.2.2.2.2.2.1 u.2.2.2.2.2.2.2.2.2.2.2.2.2.2.2.2.2.2.2.2.2.2.2.2.2.1 u.2.2.2.2.2.2.2.2.2.2.2.2.2.2.2.2.2.2.2.2.2.2.2.2.2.2.1 u.2.2.2.2.2.2.2.2.2.2.2.2.2.2.2.2.2.2.2.2.2.2.2.2.2.2.2.1 u.2.2.2.2.2.2.2.2.2.2.2.2.2.2.2.2.2.2.2.2.2.2.2.2.2.2.2.2.1 u.2.2.2.2.2.2.2.2.2.2.2.2.2.2.2.2.2.2.2.2.2.2.2.2.2.2.2.2.2.1 u.2.2.2.2.2.2.2.2.2.2.2.2.2.2.2.2.2.2.2.2.2.2.2.2.2.2.2.2.2.2.1 u.2.2.2.2.2.2.2.2.2.2.2.2.2.2.2.2.2.2.2.2.2.2.2.2.2.2.2.2.2.2.2 := by
  refine cs_takeR (u := u) hFL ht hc (by rw [cs_sibi]; simp; omega) (cs_sibi _ _) hR (fun u' h' => ?_)
  rw [cs_sibt] at h'
  have t := H u' h'
  obtain ⟨f0, f1, f2, a1, a2, a3, a4, a5, a6, a7, a8, a9, a10, a11, a12, a13, a14, a15, a16, a17, a18, a19, a20, a21, a22, a23, a24, a25, a26, a27, a28, a29⟩ := u'
  refine br_t rfl (cs_inboxR ht h' (br_t ?_ (nm_r (pk_m1 _) t)))
  rw [cs_sibi, nI_pred]
theorem cs_L550 (hp : post 1 ()) (ht : to < 4) (hk : k < 5) (hk2 : 2 ≤ k) (hx : x < 4) (hH : cs_H6 k F) (hH5 : cs_H5 k x E F) (hx0 : x0 &&& 3 = nI x) (hs1 : 20 ≤ sz) (hs2 : sz ≤ 27) (he2 : e < 2) (he : (x1 >>> ((8 : Int32) &&& 31)) &&& 1 = nI e) {bb : Nat → Int32} :
    ∀ (l : List (Nat × Nat)) (u : St2), (∀ y, y ∈ l → y.1 < 7 ∧ y.2 < 10) → l.length ≤ 4 → cs_R to (cs_FL sz e (k / 4)) (cs_FB x1 (k / 4)) 0 bb (cs_sib l E) u →
      wL_lawOf_550 post mc ms x0 x1 (nI to) (nI sz) kc ks (l.length + 1) (nI l.length) u.1 u.2.1 u.2.2.1 u.2.2.2.1 u.2.2.2.2.1 u.2.2.2.2.2.1 u.2.2.2.2.2.2.1 u.2.2.2.2.2.2.2.1 u.2.2.2.2.2.2.2.2.1 u.2.2.2.2.2.2.2.2.2.1 u.2.2.2.2.2.2.2.2.2.2.1 u.2.2.2.2.2.2.2.2.2.2.2.1 u.2.2.2.2.2.2.2.2.2.2.2.2.1 u.2.2.2.2.2.2.2.2.2.2.2.2.2.1 u.2.2.2.2.2.2.2.2.2.2.2.2.2.2.1 u.2.2.2.2.2.2.2.2.2.2.2.2.2.2.2.1 u.2.2.2.2.2.2.2.2.2.2.2.2.2.2.2.2.1 u.2.2.2.2.2.2.2.2.2.2.2.2.2.2.2.2.2.1 u.2.2.2.2.2.2.2.2.2.2.2.2.2.2.2.2.2.2.1 u.2.2.2.2.2.2.2.2.2.2.2.2.2.2.2.2.2.2.2.1 u.2.2.2.2.2.2.2.2.2.2.2.2.2.2.2.2.2.2.2.2.1 u.2.2.2.2.2.2.2.2.2.2.2.2.2.2.2.2.2.2.2.2.2.1 u.2.2.2.2.2.2.2.2.2.2.2.2.2.2.2.2.2.2.2.2.2.2.1 u.2.2.2.2.2.2.2.2.2.2.2.2.2.2.2.2.2.2.2.2.2.2.2.1 u.2.2.2.2.2.2.2.2.2.2.2.2.2.2.2.2.2.2.2.2.2.2.2.2.1 u.2.2.2.2.2.2.2.2.2.2.2.2.2.2.2.2.2.2.2.2.2.2.2.2.2.1 u.2.2.2.2.2.2.2.2.2.2.2.2.2.2.2.2.2.2.2.2.2.2.2.2.2.2.1 u.2.2.2.2.2.2.2.2.2.2.2.2.2.2.2.2.2.2.2.2.2.2.2.2.2.2.2.1 u.2.2.2.2.2.2.2.2.2.2.2.2.2.2.2.2.2.2.2.2.2.2.2.2.2.2.2.2.1 u.2.2.2.2.2.2.2.2.2.2.2.2.2.2.2.2.2.2.2.2.2.2.2.2.2.2.2.2.2.1 u.2.2.2.2.2.2.2.2.2.2.2.2.2.2.2.2.2.2.2.2.2.2.2.2.2.2.2.2.2.2.1 u.2.2.2.2.2.2.2.2.2.2.2.2.2.2.2.2.2.2.2.2.2.2.2.2.2.2.2.2.2.2.2 := by
  have hFL := cs_FLk (b := k / 4) hs1 hs2 he2
  intro l
  induction l with
  | nil =>
    intro u _ _ h
    obtain ⟨d0, _, _, _, _, _, _, d1, d2, d3, d4, d5, d6⟩ := hH5
    obtain ⟨f0, f1, f2, a1, a2, a3, a4, a5, a6, a7, a8, a9, a10, a11, a12, a13, a14, a15, a16, a17, a18, a19, a20, a21, a22, a23, a24, a25, a26, a27, a28, a29⟩ := u
    refine pk_le 0 0 (fun _ => cs_closeR (c := 7) ht (by omega) d1 d2 d3 d4 h (fun r u1 h1 => ?_)) (fun z => absurd z (by omega))
    obtain ⟨f0, f1, f2, a1, a2, a3, a4, a5, a6, a7, a8, a9, a10, a11, a12, a13, a14, a15, a16, a17, a18, a19, a20, a21, a22, a23, a24, a25, a26, a27, a28, a29⟩ := u1
    have e4 : (4 : Int32) * (x0 &&& 3) + nI to = nI (4 * x + to) := by rw [hx0]; exact cs_ma 4 x to
    dsimp only
    rw [e4]
    refine cs_openR (c := 7) ht (by omega) hx d5 d6 h1 (fun u2 h2 => ?_)
    rw [← d0] at h2
    obtain ⟨f0, f1, f2, a1, a2, a3, a4, a5, a6, a7, a8, a9, a10, a11, a12, a13, a14, a15, a16, a17, a18, a19, a20, a21, a22, a23, a24, a25, a26, a27, a28, a29⟩ := u2
    exact br_t rfl (cs_countedR (i := 6) (by omega) h2 (cs_L749 (u := (f0, f1, f2, a1, a2, a3, a4, a5, a6, a7, a8, a9, a10, a11, a12, a13, a14, a15, a16, a17, a18, a19, a20, a21, a22, a23, a24, a25, a26, a27, a28, a29)) hp ht hk hk2 hH hs1 hs2 he2 he h2))
  | cons y l ih =>
    intro u hy hl h
    obtain ⟨c, n⟩ := y
    have hcn := hy (c, n) (by simp)
    have hc : c < 7 := hcn.1
    have hn : n < 10 := hcn.2
    have hl' : l.length + 1 ≤ 4 := hl
    have hL := hFL c n
    have hib := cs_sibi ((c, n) :: l) E
    have hl2 : (cs_ibM (cs_sib ((c, n) :: l) E)).length ≤ 4 := by rw [hib]; exact hl
    have t : ∀ s, cs_R to (cs_FL sz e (k / 4)) (cs_FB x1 (k / 4)) 0 bb (cs_sib l E) s → wL_lawOf_550 post mc ms x0 x1 (nI to) (nI sz) kc ks (l.length + 1) (nI l.length) s.1 s.2.1 s.2.2.1 s.2.2.2.1 s.2.2.2.2.1 s.2.2.2.2.2.1 s.2.2.2.2.2.2.1 s.2.2.2.2.2.2.2.1 s.2.2.2.2.2.2.2.2.1 s.2.2.2.2.2.2.2.2.2.1 s.2.2.2.2.2.2.2.2.2.2.1 s.2.2.2.2.2.2.2.2.2.2.2.1 s.2.2.2.2.2.2.2.2.2.2.2.2.1 s.2.2.2.2.2.2.2.2.2.2.2.2.2.1 s.2.2.2.2.2.2.2.2.2.2.2.2.2.2.1 s.2.2.2.2.2.2.2.2.2.2.2.2.2.2.2.1 s.2.2.2.2.2.2.2.2.2.2.2.2.2.2.2.2.1 s.2.2.2.2.2.2.2.2.2.2.2.2.2.2.2.2.2.1 s.2.2.2.2.2.2.2.2.2.2.2.2.2.2.2.2.2.2.1 s.2.2.2.2.2.2.2.2.2.2.2.2.2.2.2.2.2.2.2.1 s.2.2.2.2.2.2.2.2.2.2.2.2.2.2.2.2.2.2.2.2.1 s.2.2.2.2.2.2.2.2.2.2.2.2.2.2.2.2.2.2.2.2.2.1 s.2.2.2.2.2.2.2.2.2.2.2.2.2.2.2.2.2.2.2.2.2.2.1 s.2.2.2.2.2.2.2.2.2.2.2.2.2.2.2.2.2.2.2.2.2.2.2.1 s.2.2.2.2.2.2.2.2.2.2.2.2.2.2.2.2.2.2.2.2.2.2.2.2.1 s.2.2.2.2.2.2.2.2.2.2.2.2.2.2.2.2.2.2.2.2.2.2.2.2.2.1 s.2.2.2.2.2.2.2.2.2.2.2.2.2.2.2.2.2.2.2.2.2.2.2.2.2.2.1 s.2.2.2.2.2.2.2.2.2.2.2.2.2.2.2.2.2.2.2.2.2.2.2.2.2.2.2.1 s.2.2.2.2.2.2.2.2.2.2.2.2.2.2.2.2.2.2.2.2.2.2.2.2.2.2.2.2.1 s.2.2.2.2.2.2.2.2.2.2.2.2.2.2.2.2.2.2.2.2.2.2.2.2.2.2.2.2.2.1 s.2.2.2.2.2.2.2.2.2.2.2.2.2.2.2.2.2.2.2.2.2.2.2.2.2.2.2.2.2.2.1 s.2.2.2.2.2.2.2.2.2.2.2.2.2.2.2.2.2.2.2.2.2.2.2.2.2.2.2.2.2.2.2 :=
      fun s hs => ih s (fun z hz => hy z (by simp [hz])) (by omega) hs
    have e1 : nI (32 * c + cs_FL sz e (k / 4) c n) / 32 = nI c := by
      have h : nI (32 * c + cs_FL sz e (k / 4) c n) / nI 32 = nI ((32 * c + cs_FL sz e (k / 4) c n) / 32) := pk_div (by omega) (by omega) (by omega)
      rw [show (32 * c + cs_FL sz e (k / 4) c n) / 32 = c by omega] at h
      exact h
    have e2 : nI (32 * c + cs_FL sz e (k / 4) c n) - nI (32 * c + cs_FL sz e (k / 4) c n) / 32 * 32 = nI (cs_FL sz e (k / 4) c n) := by
      have h : nI (32 * c + cs_FL sz e (k / 4) c n) - nI (32 * c + cs_FL sz e (k / 4) c n) / nI 32 * nI 32 = nI ((32 * c + cs_FL sz e (k / 4) c n) % 32) := pk_rem (by omega) (by omega) (by omega)
      rw [show (32 * c + cs_FL sz e (k / 4) c n) % 32 = cs_FL sz e (k / 4) c n by omega] at h
      exact h
    refine pk_le (l.length + 1) 0 (fun z => absurd z (by omega)) (fun _ => cs_firstR (u := u) ht hl2 hib h ⟨by decide, nm_r e1 ⟨by decide, nm_r e2 ?_⟩⟩)
    have tk : wL_lawOf_677 post mc ms (wL_lawOf_550 post mc ms x0 x1 (nI to) (nI sz) kc ks (l.length + 1)) x0 x1 (nI to) (nI sz) (nI (l.length + 1)) (nI (32 * c + cs_FL sz e (k / 4) c n)) kc ks u.1 u.2.1 u.2.2.1 u.2.2.2.1 u.2.2.2.2.1 u.2.2.2.2.2.1 u.2.2.2.2.2.2.1 u.2.2.2.2.2.2.2.1 u.2.2.2.2.2.2.2.2.1 u.2.2.2.2.2.2.2.2.2.1 u.2.2.2.2.2.2.2.2.2.2.1 u.2.2.2.2.2.2.2.2.2.2.2.1 u.2.2.2.2.2.2.2.2.2.2.2.2.1 u.2.2.2.2.2.2.2.2.2.2.2.2.2.1 u.2.2.2.2.2.2.2.2.2.2.2.2.2.2.1 u.2.2.2.2.2.2.2.2.2.2.2.2.2.2.2.1 u.2.2.2.2.2.2.2.2.2.2.2.2.2.2.2.2.1 u.2.2.2.2.2.2.2.2.2.2.2.2.2.2.2.2.2.1 u.2.2.2.2.2.2.2.2.2.2.2.2.2.2.2.2.2.2.1 u.2.2.2.2.2.2.2.2.2.2.2.2.2.2.2.2.2.2.2.1 u.2.2.2.2.2.2.2.2.2.2.2.2.2.2.2.2.2.2.2.2.1 u.2.2.2.2.2.2.2.2.2.2.2.2.2.2.2.2.2.2.2.2.2.1 u.2.2.2.2.2.2.2.2.2.2.2.2.2.2.2.2.2.2.2.2.2.2.1 u.2.2.2.2.2.2.2.2.2.2.2.2.2.2.2.2.2.2.2.2.2.2.2.1 u.2.2.2.2.2.2.2.2.2.2.2.2.2.2.2.2.2.2.2.2.2.2.2.2.1 u.2.2.2.2.2.2.2.2.2.2.2.2.2.2.2.2.2.2.2.2.2.2.2.2.2.1 u.2.2.2.2.2.2.2.2.2.2.2.2.2.2.2.2.2.2.2.2.2.2.2.2.2.2.1 u.2.2.2.2.2.2.2.2.2.2.2.2.2.2.2.2.2.2.2.2.2.2.2.2.2.2.2.1 u.2.2.2.2.2.2.2.2.2.2.2.2.2.2.2.2.2.2.2.2.2.2.2.2.2.2.2.2.1 u.2.2.2.2.2.2.2.2.2.2.2.2.2.2.2.2.2.2.2.2.2.2.2.2.2.2.2.2.2.1 u.2.2.2.2.2.2.2.2.2.2.2.2.2.2.2.2.2.2.2.2.2.2.2.2.2.2.2.2.2.2.1 u.2.2.2.2.2.2.2.2.2.2.2.2.2.2.2.2.2.2.2.2.2.2.2.2.2.2.2.2.2.2.2 :=
      cs_L677 hFL ht (by omega) (by omega) h t
    by_cases yc : c < 4
    · have eL : cs_FL sz e (k / 4) c n = sz := by
        unfold cs_FL
        rw [if_pos yc]
      have eB : ∀ i, cs_FB x1 (k / 4) c n i = nI (10 * c + n + i) := by
        intro i
        unfold cs_FB
        rw [if_pos yc]
      have es : nI sz - 1 = nI (sz - 1) := pk_sub (b := 1) (by omega)
      refine br_t (by rw [eL]) (br_f (nI_nlt (a := 3) (b := c) (by omega) (by omega)) ?_)
      refine cs_byteOfR (u := u) (i := 1) hFL ht hl2 hib (by omega) h (cs_byteOfR (u := u) (i := 0) hFL ht hl2 hib (by omega) h (br_t (by rw [eB, eB, nI_1]) (cs_byteOfR (u := u) (i := 0) hFL ht hl2 hib (by omega) h ⟨by decide, br_t ?_ ?_⟩)))
      · rw [eB]
        have h : nI (10 * c + n + 0) / nI 10 = nI ((10 * c + n + 0) / 10) := pk_div (by omega) (by omega) (by omega)
        rw [show (10 * c + n + 0) / 10 = c by omega] at h
        exact h
      · rw [es]
        refine cs_byteOfR (u := u) (i := sz - 1) hFL ht hl2 hib (by omega) h (cs_byteOfR (u := u) (i := 0) hFL ht hl2 hib (by omega) h (br_t ?_ tk))
        rw [eB, eB, nI_add]
        have h : nI (10 * c + n + 0 + sz) - nI 1 = nI (10 * c + n + 0 + sz - 1) := pk_sub (by omega)
        rw [show 10 * c + n + 0 + sz - 1 = 10 * c + n + (sz - 1) by omega] at h
        exact h.symm
    · have eL : cs_FL sz e (k / 4) c n = 1 := by
        unfold cs_FL
        rw [if_neg yc, if_neg (by omega)]
      have eB : cs_FB x1 (k / 4) c n 0 = 1 := by
        unfold cs_FB
        rw [if_neg yc, if_neg (by omega)]
      refine br_f (by rw [eL, nI_eq (by omega) (by omega)]; omega) (br_t (by rw [eL]; rfl) (br_f (nI_nlt (a := c) (b := 4) (by omega) (by omega)) ?_))
      exact cs_byteOfR (u := u) (i := 0) hFL ht hl2 hib (by omega) h (br_t eB tk)
end
end
section
/-! the law's first loops, and the top -/
theorem cs_c0 : ∀ k, k < 5 → 2 ≤ k → (cs_qM (cs_ST k 0)).length = 0 ∧ cs_D (cs_ST k 0) = 0 := by decide +kernel
theorem cs_t3 : ∀ t, t < 4 → (nI t + 1) &&& 3 = nI ((t + 1) % 4) := by decide +kernel
/-- what is asked of the pictures of the first loops -/
def cs_H4 (k : Nat) (S : Nat → cs_M) (E : cs_M) : Prop := (∀ i, cs_tk 1 (S i) = S (i + 1)) ∧ cs_tk 6 (S 9) = E ∧ ((cs_qM (S 0)).length = 0 ∧ cs_D (S 0) = 0)
  ∧ (∀ t, t < 9 → cs_okT (S t) = true ∧ cs_D (S t) ≤ cs_D (S (t + 1)) ∧ cs_D (S (t + 1)) ≤ cs_D (S t) + k ∧ (cs_qM (S t)).length + k + cs_D (S t) = cs_D (S (t + 1)) + (cs_qM (S (t + 1))).length + 1 ∧ (cs_qM (S (t + 1))).length ≤ 6 ∧ cs_TM (S (t + 1)) = t + 1 ∧ cs_D (S (t + 1)) < 1000 ∧ (cs_qM (S t)).length ≤ 6 ∧ (t = 1 → cs_opM (S (t + 1)) 4 = 1 ∧ cs_opM (S (t + 1)) 0 = 1 ∧ cs_frM (S (t + 1)) 4 = 0 ∧ cs_frM (S (t + 1)) 0 = 2))
  ∧ (9 * k = cs_D (S 9) + 9 + (cs_qM (S 9)).length ∧ cs_opM (S 9) 0 = 1 ∧ cs_frM (S 9) 0 = 0 ∧ cs_opM (S 9) (k - 1) = 1 ∧ cs_frM (S 9) (k - 1) = 0 ∧ cs_ct (S 9) 0 = 0 ∧ cs_ct (S 9) 3 = 0 ∧ (∀ i, i < 6 → cs_okT (cs_tk i (S 9)) = true))
def cs_H2 (k : Nat) (P S : Nat → cs_M) : Prop := S 0 = P k ∧ (∀ i, cs_pst (i + 4) (cs_pj i (P i) 2) = P (i + 1))
  ∧ (∀ i, i < k → (∀ j, j < 2 → cs_wf (cs_pj i (P i) j) = true ∧ cs_opM (cs_pj i (P i) j) i = 1 ∧ cs_frM (cs_pj i (P i) j) i = j ∧ cs_nuM (cs_pj i (P i) j) i = 0 ∧ cs_opM (cs_pj i (P i) (j + 1)) i = 1 ∧ cs_frM (cs_pj i (P i) (j + 1)) i = j + 1)
    ∧ cs_wf (cs_pj i (P i) 2) = true ∧ cs_opM (cs_pj i (P i) 2) i = 1 ∧ cs_frM (cs_pj i (P i) 2) i = 2 ∧ cs_opM (cs_pj i (P i) 2) (i + 4) = 1 ∧ cs_frM (cs_pj i (P i) 2) (i + 4) = 0 ∧ cs_nuM (cs_pj i (P i) 2) (i + 4) = 0)
def cs_H1 (k : Nat) (O P : Nat → cs_M) : Prop := O 0 = cs_M0 ∧ O k = P 0 ∧ (∀ i, cs_opn (i + 4) i (cs_opn i i (O i)) = O (i + 1))
  ∧ (∀ i, i < 4 → cs_ln (O i) = true ∧ cs_opM (O i) i = 0 ∧ cs_ln (cs_opn i i (O i)) = true ∧ cs_opM (cs_opn i i (O i)) (i + 4) = 0)
theorem cs_passE {post : Int32 → St2 → Prop} {m to bf : Nat} {FL : Nat → Nat → Nat} {FB : Nat → Nat → Nat → Int32} {bb : Nat → Int32} {M M' : cs_M} {u : St2} (hM : cs_tk m M = M') (hFL : cs_FLok FL) (ht : to < 4) (hm : m ≤ 200) (hok : ∀ i, i < m → cs_okT (cs_tk i M) = true) (hR : cs_R to FL FB bf bb M u)
    (H : ∀ u', cs_R to FL FB bf bb M' u' → post (nI (cs_ct M' 4) - nI (cs_ct M 4)) u') : wpX_pass post u (nI m) := by
  subst hM
  exact cs_passR hFL ht hm hok hR H
section
variable {F S P O : Nat → cs_M} {E : cs_M}
variable {post : Int32 → St0 → Prop} {mc ms kc ks to k x sz e : Nat} {x0 x1 x2 : Int32}
theorem cs_L330 {J : Int32 → Int32 → Int32 → Int32 → Int32 → Int32 → Int32 → Int32 → (Nat → Int32) → (Nat → Int32) → (Nat → Int32) → (Nat → Int32) → (Nat → Int32) → (Nat → Int32) → (Nat → Int32) → (Nat → Int32) → (Nat → Int32) → (Nat → Int32) → (Nat → Int32) → (Nat → Int32) → (Nat → Int32) → (Nat → Int32) → (Nat → Int32) → (Nat → Int32) → (Nat → Int32) → (Nat → Int32) → (Nat → Int32) → (Nat → Int32) → (Nat → Int32) → (Nat → Int32) → (Nat → Int32) → (Nat → Int32) → (Nat → Int32) → (Nat → Int32) → (Nat → Int32) → (Nat → Int32) → (Nat → Int32) → Prop} {FL : Nat → Nat → Nat} {FB : Nat → Nat → Nat → Int32} {bb : Nat → Int32}
    {x6 x7 x9 x10 x11 : Int32} {D D' Q t : Nat} {M : cs_M} {u : St2} (ht : to < 4) (hk : k < 5) (hQ : Q ≤ 6) (hq : (cs_qM M).length = Q) (hT : cs_TM M = t + 1) (htt : t < 9) (hd : D ≤ D') (hd2 : D' ≤ D + k) (hd3 : D' < 1000)
    (h2 : t = 1 → cs_opM M 4 = 1 ∧ cs_opM M 0 = 1 ∧ cs_frM M 4 = 0 ∧ cs_frM M 0 = 2)
    (hR : cs_R to FL FB 0 bb M u) (H : J (nI Q) x9 x10 x11 (nI (t + 1 + 1)) u.1 u.2.1 u.2.2.1 u.2.2.2.1 u.2.2.2.2.1 u.2.2.2.2.2.1 u.2.2.2.2.2.2.1 u.2.2.2.2.2.2.2.1 u.2.2.2.2.2.2.2.2.1 u.2.2.2.2.2.2.2.2.2.1 u.2.2.2.2.2.2.2.2.2.2.1 u.2.2.2.2.2.2.2.2.2.2.2.1 u.2.2.2.2.2.2.2.2.2.2.2.2.1 u.2.2.2.2.2.2.2.2.2.2.2.2.2.1 u.2.2.2.2.2.2.2.2.2.2.2.2.2.2.1 u.2.2.2.2.2.2.2.2.2.2.2.2.2.2.2.1 u.2.2.2.2.2.2.2.2.2.2.2.2.2.2.2.2.1 u.2.2.2.2.2.2.2.2.2.2.2.2.2.2.2.2.2.1 u.2.2.2.2.2.2.2.2.2.2.2.2.2.2.2.2.2.2.1 u.2.2.2.2.2.2.2.2.2.2.2.2.2.2.2.2.2.2.2.1 u.2.2.2.2.2.2.2.2.2.2.2.2.2.2.2.2.2.2.2.2.1 u.2.2.2.2.2.2.2.2.2.2.2.2.2.2.2.2.2.2.2.2.2.1 u.2.2.2.2.2.2.2.2.2.2.2.2.2.2.2.2.2.2.2.2.2.2.1 u.2.2.2.2.2.2.2.2.2.2.2.2.2.2.2.2.2.2.2.2.2.2.2.1 u.2.2.2.2.2.2.2.2.2.2.2.2.2.2.2.2.2.2.2.2.2.2.2.2.1 u.2.2.2.2.2.2.2.2.2.2.2.2.2.2.2.2.2.2.2.2.2.2.2.2.2.1 u.2.2.2.2.2.2.2.2.2.2.2.2.2.2.2.2.2.2.2.2.2.2.2.2.2.2.1 u.2.2.2.2.2.2.2.2.2.2.2.2.2.2.2.2.2.2.2.2.2.2.2.2.2.2.2.1 u.2.2.2.2.2.2.2.2.2.2.2.2.2.2.2.2.2.2.2.2.2.2.2.2.2.2.2.2.1 u.2.2.2.2.2.2.2.2.2.2.2.2.2.2.2.2.2.2.2.2.2.2.2.2.2.2.2.2.2.1 u.2.2.2.2.2.2.2.2.2.2.2.2.2.2.2.2.2.2.2.2.2.2.2.2.2.2.2.2.2.2.1 u.2.2.2.2.2.2.2.2.2.2.2.2.2.2.2.2.2.2.2.2.2.2.2.2.2.2.2.2.2.2.2) :
    wL_lawOf_330 post mc ms J x0 x1 (nI to) (nI k) x6 x7 x9 x10 x11 (nI (t + 1)) (nI D) (nI D') (nI Q) kc ks u.1 u.2.1 u.2.2.1 u.2.2.2.1 u.2.2.2.2.1 u.2.2.2.2.2.1 u.2.2.2.2.2.2.1 u.2.2.2.2.2.2.2.1 u.2.2.2.2.2.2.2.2.1 u.2.2.2.2.2.2.2.2.2.1 u.2.2.2.2.2.2.2.2.2.2.1 u.2.2.2.2.2.2.2.2.2.2.2.1 u.2.2.2.2.2.2.2.2.2.2.2.2.1 u.2.2.2.2.2.2.2.2.2.2.2.2.2.1 u.2.2.2.2.2.2.2.2.2.2.2.2.2.2.1 u.2.2.2.2.2.2.2.2.2.2.2.2.2.2.2.1 u.2.2.2.2.2.2.2.2.2.2.2.2.2.2.2.2.1 u.2.2.2.2.2.2.2.2.2.2.2.2.2.2.2.2.2.1 u.2.2.2.2.2.2.2.2.2.2.2.2.2.2.2.2.2.2.1 u.2.2.2.2.2.2.2.2.2.2.2.2.2.2.2.2.2.2.2.1 u.2.2.2.2.2.2.2.2.2.2.2.2.2.2.2.2.2.2.2.2.1 u.2.2.2.2.2.2.2.2.2.2.2.2.2.2.2.2.2.2.2.2.2.1 u.2.2.2.2.2.2.2.2.2.2.2.2.2.2.2.2.2.2.2.2.2.2.1 u.2.2.2.2.2.2.2.2.2.2.2.2.2.2.2.2.2.2.2.2.2.2.2.1 u.2.2.2.2.2.2.2.2.2.2.2.2.2.2.2.2.2.2.2.2.2.2.2.2.1 u.2.2.2.2.2.2.2.2.2.2.2.2.2.2.2.2.2.2.2.2.2.2.2.2.2.1 u.2.2.2.2.2.2.2.2.2.2.2.2.2.2.2.2.2.2.2.2.2.2.2.2.2.2.1 u.2.2.2.2.2.2.2.2.2.2.2.2.2.2.2.2.2.2.2.2.2.2.2.2.2.2.2.1 u.2.2.2.2.2.2.2.2.2.2.2.2.2.2.2.2.2.2.2.2.2.2.2.2.2.2.2.2.1 u.2.2.2.2.2.2.2.2.2.2.2.2.2.2.2.2.2.2.2.2.2.2.2.2.2.2.2.2.2.1 u.2.2.2.2.2.2.2.2.2.2.2.2.2.2.2.2.2.2.2.2.2.2.2.2.2.2.2.2.2.2.1 u.2.2.2.2.2.2.2.2.2.2.2.2.2.2.2.2.2.2.2.2.2.2.2.2.2.2.2.2.2.2.2 := by
  obtain ⟨f0, f1, f2, a1, a2, a3, a4, a5, a6, a7, a8, a9, a10, a11, a12, a13, a14, a15, a16, a17, a18, a19, a20, a21, a22, a23, a24, a25, a26, a27, a28, a29⟩ := u
  refine cs_queuedR ht hR (br_t (by rw [hq]) (br_f (nI_nlt (a := 6) (b := Q) hQ (by omega)) ?_))
  rw [cs_t3 to ht]
  refine cs_queuedN (s := (to + 1) % 4) (by omega) (by omega) hR (br_t rfl (cs_timeR hR (br_t (by rw [hT]) (br_t ?_ ?_))))
  · rw [pk_sub hd]
    exact nI_le (by omega) (by omega)
  · refine pk_eq (t + 1) 2 (fun z => ?_) (fun z => nm_r (nI_1 _) H)
    obtain ⟨g1, g2, g3, g4⟩ := h2 (by omega)
    exact cs_waitingR (c := 4) (by omega) g1 hR (br_t (by rw [g3]; rfl) (cs_waitingR (c := 0) (by omega) g2 hR (br_t (by rw [g4]; rfl) (nm_r (nI_1 _) H))))
theorem cs_L227 {u : St2} {bb : Nat → Int32} (hp : post 1 ()) (ht : to < 4) (hk : k < 5) (hk2 : 2 ≤ k) (hx : x < 4) (hH : cs_H6 k F) (hH5 : cs_H5 k x E F) (hH4 : cs_H4 k S E) (hx0 : x0 &&& 3 = nI x) (hs1 : 20 ≤ sz) (hs2 : sz ≤ 27) (he2 : e < 2) (he : (x1 >>> ((8 : Int32) &&& 31)) &&& 1 = nI e)
    (hR : cs_R to (cs_FL sz e (k / 4)) (cs_FB x1 (k / 4)) 0 bb (S 0) u) : ∃ n, wL_lawOf_227 post mc ms x0 x1 (nI to) (nI k) (nI sz) (nI 4) kc ks n 0 0 0 0 1 u.1 u.2.1 u.2.2.1 u.2.2.2.1 u.2.2.2.2.1 u.2.2.2.2.2.1 u.2.2.2.2.2.2.1 u.2.2.2.2.2.2.2.1 u.2.2.2.2.2.2.2.2.1 u.2.2.2.2.2.2.2.2.2.1 u.2.2.2.2.2.2.2.2.2.2.1 u.2.2.2.2.2.2.2.2.2.2.2.1 u.2.2.2.2.2.2.2.2.2.2.2.2.1 u.2.2.2.2.2.2.2.2.2.2.2.2.2.1 u.2.2.2.2.2.2.2.2.2.2.2.2.2.2.1 u.2.2.2.2.2.2.2.2.2.2.2.2.2.2.2.1 u.2.2.2.2.2.2.2.2.2.2.2.2.2.2.2.2.1 u.2.2.2.2.2.2.2.2.2.2.2.2.2.2.2.2.2.1 u.2.2.2.2.2.2.2.2.2.2.2.2.2.2.2.2.2.2.1 u.2.2.2.2.2.2.2.2.2.2.2.2.2.2.2.2.2.2.2.1 u.2.2.2.2.2.2.2.2.2.2.2.2.2.2.2.2.2.2.2.2.1 u.2.2.2.2.2.2.2.2.2.2.2.2.2.2.2.2.2.2.2.2.2.1 u.2.2.2.2.2.2.2.2.2.2.2.2.2.2.2.2.2.2.2.2.2.2.1 u.2.2.2.2.2.2.2.2.2.2.2.2.2.2.2.2.2.2.2.2.2.2.2.1 u.2.2.2.2.2.2.2.2.2.2.2.2.2.2.2.2.2.2.2.2.2.2.2.2.1 u.2.2.2.2.2.2.2.2.2.2.2.2.2.2.2.2.2.2.2.2.2.2.2.2.2.1 u.2.2.2.2.2.2.2.2.2.2.2.2.2.2.2.2.2.2.2.2.2.2.2.2.2.2.1 u.2.2.2.2.2.2.2.2.2.2.2.2.2.2.2.2.2.2.2.2.2.2.2.2.2.2.2.1 u.2.2.2.2.2.2.2.2.2.2.2.2.2.2.2.2.2.2.2.2.2.2.2.2.2.2.2.2.1 u.2.2.2.2.2.2.2.2.2.2.2.2.2.2.2.2.2.2.2.2.2.2.2.2.2.2.2.2.2.1 u.2.2.2.2.2.2.2.2.2.2.2.2.2.2.2.2.2.2.2.2.2.2.2.2.2.2.2.2.2.2.1 u.2.2.2.2.2.2.2.2.2.2.2.2.2.2.2.2.2.2.2.2.2.2.2.2.2.2.2.2.2.2.2 := by
  have hFL := cs_FLk (b := k / 4) hs1 hs2 he2
  obtain ⟨hS, hE, c0, c3, c4⟩ := hH4
  refine Exists.elim (pk_loop (fun n i s => ∀ x8 x9 x10 x11 x12, x8 = nI (cs_qM (S i)).length → x9 = nI (cs_D (S i)) → x10 = nI i → x11 = nI (k * i) → x12 = nI (i + 1) → wL_lawOf_227 post mc ms x0 x1 (nI to) (nI k) (nI sz) (nI 4) kc ks n x8 x9 x10 x11 x12 s.1 s.2.1 s.2.2.1 s.2.2.2.1 s.2.2.2.2.1 s.2.2.2.2.2.1 s.2.2.2.2.2.2.1 s.2.2.2.2.2.2.2.1 s.2.2.2.2.2.2.2.2.1 s.2.2.2.2.2.2.2.2.2.1 s.2.2.2.2.2.2.2.2.2.2.1 s.2.2.2.2.2.2.2.2.2.2.2.1 s.2.2.2.2.2.2.2.2.2.2.2.2.1 s.2.2.2.2.2.2.2.2.2.2.2.2.2.1 s.2.2.2.2.2.2.2.2.2.2.2.2.2.2.1 s.2.2.2.2.2.2.2.2.2.2.2.2.2.2.2.1 s.2.2.2.2.2.2.2.2.2.2.2.2.2.2.2.2.1 s.2.2.2.2.2.2.2.2.2.2.2.2.2.2.2.2.2.1 s.2.2.2.2.2.2.2.2.2.2.2.2.2.2.2.2.2.2.1 s.2.2.2.2.2.2.2.2.2.2.2.2.2.2.2.2.2.2.2.1 s.2.2.2.2.2.2.2.2.2.2.2.2.2.2.2.2.2.2.2.2.1 s.2.2.2.2.2.2.2.2.2.2.2.2.2.2.2.2.2.2.2.2.2.1 s.2.2.2.2.2.2.2.2.2.2.2.2.2.2.2.2.2.2.2.2.2.2.1 s.2.2.2.2.2.2.2.2.2.2.2.2.2.2.2.2.2.2.2.2.2.2.2.1 s.2.2.2.2.2.2.2.2.2.2.2.2.2.2.2.2.2.2.2.2.2.2.2.2.1 s.2.2.2.2.2.2.2.2.2.2.2.2.2.2.2.2.2.2.2.2.2.2.2.2.2.1 s.2.2.2.2.2.2.2.2.2.2.2.2.2.2.2.2.2.2.2.2.2.2.2.2.2.2.1 s.2.2.2.2.2.2.2.2.2.2.2.2.2.2.2.2.2.2.2.2.2.2.2.2.2.2.2.1 s.2.2.2.2.2.2.2.2.2.2.2.2.2.2.2.2.2.2.2.2.2.2.2.2.2.2.2.2.1 s.2.2.2.2.2.2.2.2.2.2.2.2.2.2.2.2.2.2.2.2.2.2.2.2.2.2.2.2.2.1 s.2.2.2.2.2.2.2.2.2.2.2.2.2.2.2.2.2.2.2.2.2.2.2.2.2.2.2.2.2.2.1 s.2.2.2.2.2.2.2.2.2.2.2.2.2.2.2.2.2.2.2.2.2.2.2.2.2.2.2.2.2.2.2)
    (fun i s => cs_R to (cs_FL sz e (k / 4)) (cs_FB x1 (k / 4)) 0 bb (S i) s) 9 0 u (by omega) hR (fun n s h x8 x9 x10 x11 x12 i8 i9 i10 i11 i12 => ?_) (fun n i s hi h hw x8 x9 x10 x11 x12 i8 i9 i10 i11 i12 => ?_)) (fun n hn => ?_)
  · obtain ⟨f0, f1, f2, a1, a2, a3, a4, a5, a6, a7, a8, a9, a10, a11, a12, a13, a14, a15, a16, a17, a18, a19, a20, a21, a22, a23, a24, a25, a26, a27, a28, a29⟩ := s
    subst i8 i9 i10 i11 i12
    obtain ⟨d1, d2, d3, d4, d5, d6, d7, d8⟩ := c4
    have hH5' := hH5
    obtain ⟨_, b1, b2, b3, b4, b5, b6, _⟩ := hH5'
    have ek : nI k - 1 = nI (k - 1) := pk_sub (b := 1) (by omega)
    refine pk_lt 9 10 (fun _ => br_t ?_ ?_) (fun z => absurd z (by omega))
    · rw [nI_add, nI_add, ← d1, Nat.mul_comm]
    · dsimp only
      rw [ek]
      refine cs_waitingR (c := 0) (by omega) d2 h (br_t (by rw [d3]; rfl) (cs_waitingR (c := k - 1) (by omega) d4 h (br_t (by rw [d5]; rfl) (cs_countedR (i := 0) (by omega) h (br_t (by rw [d6]; rfl) (cs_countedR (i := 3) (by omega) h (br_t (by rw [d7]; rfl) (cs_passE (m := 6) hE hFL ht (by omega) d8 h (fun u1 h1 => ?_)))))))))
      have h1' := h1
      obtain ⟨f0, f1, f2, a1, a2, a3, a4, a5, a6, a7, a8, a9, a10, a11, a12, a13, a14, a15, a16, a17, a18, a19, a20, a21, a22, a23, a24, a25, a26, a27, a28, a29⟩ := u1
      refine cs_countedR (i := 4) (by omega) h1' (cs_countedR (i := 5) (by omega) h1' (cs_countedR (i := 6) (by omega) h1' (nm_r (e' := nI (cs_ct E 4 + cs_ct E 5 + cs_ct E 6)) (by rw [nI_add, nI_add]) ?_)))
      refine cs_queuedR ht h1' (br_t (by rw [b1]; rfl) (cs_inboxR ht h1' (br_f (nI_nlt (a := 4) b2 (by omega)) (cs_countedR (i := 4) (by omega) h1' (cs_inboxR ht h1' (br_t (by rw [b3]) (br_f ?_ (br_t (nI_le (a := 1) b5 (by omega)) (cs_inboxR ht h1' ?_)))))))))
      · have e3 : (3 : Int32) * nI k = nI (3 * k) := pk_mul 3 k
        rw [e3]
        exact nI_nlt b4 (by omega)
      · refine ⟨_, cs_L550 (bb := bb) (l := cs_ibM E) (u := (f0, f1, f2, a1, a2, a3, a4, a5, a6, a7, a8, a9, a10, a11, a12, a13, a14, a15, a16, a17, a18, a19, a20, a21, a22, a23, a24, a25, a26, a27, a28, a29)) hp ht hk hk2 hx hH hH5 hx0 hs1 hs2 he2 he b6 b2 ?_⟩
        rw [cs_sibs]
        exact h1'
  · obtain ⟨f0, f1, f2, a1, a2, a3, a4, a5, a6, a7, a8, a9, a10, a11, a12, a13, a14, a15, a16, a17, a18, a19, a20, a21, a22, a23, a24, a25, a26, a27, a28, a29⟩ := s
    subst i8 i9 i10 i11 i12
    obtain ⟨d1, d2, d3, d4, d5, d6, d7, d8, d9⟩ := c3 i hi
    refine pk_lt 9 (i + 1) (fun z => absurd z (by omega)) (fun _ => ?_)
    refine cs_countedR (i := 1) (by omega) h (cs_countedR (i := 2) (by omega) h (nm_r (e' := nI (cs_D (S i))) (nI_add _ _) (cs_passE (m := 1) (hS i) hFL ht (by omega) (fun j hj => ?_) h (fun u1 h1 => ?_))))
    · have ej : j = 0 := by omega
      rw [ej]
      exact d1
    · have h1' := h1
      have t := hw u1 h1'
      obtain ⟨f0, f1, f2, a1, a2, a3, a4, a5, a6, a7, a8, a9, a10, a11, a12, a13, a14, a15, a16, a17, a18, a19, a20, a21, a22, a23, a24, a25, a26, a27, a28, a29⟩ := u1
      refine cs_countedR (i := 1) (by omega) h1' (cs_countedR (i := 2) (by omega) h1' (nm_r (e' := nI (cs_D (S (i + 1)))) (nI_add _ _) (nm_r (e' := nI (k * (i + 1))) (nI_add _ _) (nm_r (e' := nI (cs_D (S (i + 1)))) ?_ (nm_r (e' := nI ((cs_qM (S (i + 1))).length + 1)) ?_ ?_)))))
      · rw [pk_sub d2, nI_add, show cs_D (S i) + (cs_D (S (i + 1)) - cs_D (S i)) = cs_D (S (i + 1)) by omega]
      · rw [pk_sub d2, nI_add, pk_sub (by omega), show (cs_qM (S i)).length + k - (cs_D (S (i + 1)) - cs_D (S i)) = (cs_qM (S (i + 1))).length + 1 by omega]
      · refine pk_le ((cs_qM (S (i + 1))).length + 1) 0 (fun z => absurd z (by omega)) (fun _ => pk_le ((cs_qM (S (i + 1))).length + 1) 0 (fun z => absurd z (by omega)) (fun _ => ?_))
        rw [nI_pred]
        exact cs_L330 (M := S (i + 1)) (u := (f0, f1, f2, a1, a2, a3, a4, a5, a6, a7, a8, a9, a10, a11, a12, a13, a14, a15, a16, a17, a18, a19, a20, a21, a22, a23, a24, a25, a26, a27, a28, a29)) ht hk d5 rfl d6 hi d2 d3 d7 d9 h1' (t _ _ _ _ _ rfl rfl (nI_1 i) rfl rfl)
  · obtain ⟨c1, c2⟩ := c0
    exact ⟨n, hn 0 0 0 0 1 (by rw [c1]; rfl) (by rw [c2]; rfl) rfl (by rw [Nat.mul_zero]; rfl) rfl⟩
theorem cs_L119 {J : Int32 → Int32 → Int32 → Int32 → (Nat → Int32) → (Nat → Int32) → (Nat → Int32) → (Nat → Int32) → (Nat → Int32) → (Nat → Int32) → (Nat → Int32) → (Nat → Int32) → (Nat → Int32) → (Nat → Int32) → (Nat → Int32) → (Nat → Int32) → (Nat → Int32) → (Nat → Int32) → (Nat → Int32) → (Nat → Int32) → (Nat → Int32) → (Nat → Int32) → (Nat → Int32) → (Nat → Int32) → (Nat → Int32) → (Nat → Int32) → (Nat → Int32) → (Nat → Int32) → (Nat → Int32) → (Nat → Int32) → (Nat → Int32) → (Nat → Int32) → (Nat → Int32) → Prop} {i : Nat} {u : St2} {bb : Nat → Int32} (ht : to < 4) (hk : k < 5) (hk2 : 2 ≤ k) (hH2 : cs_H2 k P S) (hs1 : 20 ≤ sz) (hs2 : sz ≤ 27) (he2 : e < 2) (hi : i < k)
    (hR : cs_R to (cs_FL sz e (k / 4)) (cs_FB x1 (k / 4)) 0 bb (P i) u) (H : ∀ bb s, cs_R to (cs_FL sz e (k / 4)) (cs_FB x1 (k / 4)) 0 bb (P (i + 1)) s → J (nI (i + 1)) s.1 s.2.1 s.2.2.1 s.2.2.2.1 s.2.2.2.2.1 s.2.2.2.2.2.1 s.2.2.2.2.2.2.1 s.2.2.2.2.2.2.2.1 s.2.2.2.2.2.2.2.2.1 s.2.2.2.2.2.2.2.2.2.1 s.2.2.2.2.2.2.2.2.2.2.1 s.2.2.2.2.2.2.2.2.2.2.2.1 s.2.2.2.2.2.2.2.2.2.2.2.2.1 s.2.2.2.2.2.2.2.2.2.2.2.2.2.1 s.2.2.2.2.2.2.2.2.2.2.2.2.2.2.1 s.2.2.2.2.2.2.2.2.2.2.2.2.2.2.2.1 s.2.2.2.2.2.2.2.2.2.2.2.2.2.2.2.2.1 s.2.2.2.2.2.2.2.2.2.2.2.2.2.2.2.2.2.1 s.2.2.2.2.2.2.2.2.2.2.2.2.2.2.2.2.2.2.1 s.2.2.2.2.2.2.2.2.2.2.2.2.2.2.2.2.2.2.2.1 s.2.2.2.2.2.2.2.2.2.2.2.2.2.2.2.2.2.2.2.2.1 s.2.2.2.2.2.2.2.2.2.2.2.2.2.2.2.2.2.2.2.2.2.1 s.2.2.2.2.2.2.2.2.2.2.2.2.2.2.2.2.2.2.2.2.2.2.1 s.2.2.2.2.2.2.2.2.2.2.2.2.2.2.2.2.2.2.2.2.2.2.2.1 s.2.2.2.2.2.2.2.2.2.2.2.2.2.2.2.2.2.2.2.2.2.2.2.2.1 s.2.2.2.2.2.2.2.2.2.2.2.2.2.2.2.2.2.2.2.2.2.2.2.2.2.1 s.2.2.2.2.2.2.2.2.2.2.2.2.2.2.2.2.2.2.2.2.2.2.2.2.2.2.1 s.2.2.2.2.2.2.2.2.2.2.2.2.2.2.2.2.2.2.2.2.2.2.2.2.2.2.2.1 s.2.2.2.2.2.2.2.2.2.2.2.2.2.2.2.2.2.2.2.2.2.2.2.2.2.2.2.2.1 s.2.2.2.2.2.2.2.2.2.2.2.2.2.2.2.2.2.2.2.2.2.2.2.2.2.2.2.2.2.1 s.2.2.2.2.2.2.2.2.2.2.2.2.2.2.2.2.2.2.2.2.2.2.2.2.2.2.2.2.2.2.1 s.2.2.2.2.2.2.2.2.2.2.2.2.2.2.2.2.2.2.2.2.2.2.2.2.2.2.2.2.2.2.2) :
    ∃ n, wL_lawOf_119 post mc ms J x0 x1 (nI to) (nI k) (nI sz) (nI 4) (nI i) kc ks n 0 u.1 u.2.1 u.2.2.1 u.2.2.2.1 u.2.2.2.2.1 u.2.2.2.2.2.1 u.2.2.2.2.2.2.1 u.2.2.2.2.2.2.2.1 u.2.2.2.2.2.2.2.2.1 u.2.2.2.2.2.2.2.2.2.1 u.2.2.2.2.2.2.2.2.2.2.1 u.2.2.2.2.2.2.2.2.2.2.2.1 u.2.2.2.2.2.2.2.2.2.2.2.2.1 u.2.2.2.2.2.2.2.2.2.2.2.2.2.1 u.2.2.2.2.2.2.2.2.2.2.2.2.2.2.1 u.2.2.2.2.2.2.2.2.2.2.2.2.2.2.2.1 u.2.2.2.2.2.2.2.2.2.2.2.2.2.2.2.2.1 u.2.2.2.2.2.2.2.2.2.2.2.2.2.2.2.2.2.1 u.2.2.2.2.2.2.2.2.2.2.2.2.2.2.2.2.2.2.1 u.2.2.2.2.2.2.2.2.2.2.2.2.2.2.2.2.2.2.2.1 u.2.2.2.2.2.2.2.2.2.2.2.2.2.2.2.2.2.2.2.2.1 u.2.2.2.2.2.2.2.2.2.2.2.2.2.2.2.2.2.2.2.2.2.1 u.2.2.2.2.2.2.2.2.2.2.2.2.2.2.2.2.2.2.2.2.2.2.1 u.2.2.2.2.2.2.2.2.2.2.2.2.2.2.2.2.2.2.2.2.2.2.2.1 u.2.2.2.2.2.2.2.2.2.2.2.2.2.2.2.2.2.2.2.2.2.2.2.2.1 u.2.2.2.2.2.2.2.2.2.2.2.2.2.2.2.2.2.2.2.2.2.2.2.2.2.1 u.2.2.2.2.2.2.2.2.2.2.2.2.2.2.2.2.2.2.2.2.2.2.2.2.2.2.1 u.2.2.2.2.2.2.2.2.2.2.2.2.2.2.2.2.2.2.2.2.2.2.2.2.2.2.2.1 u.2.2.2.2.2.2.2.2.2.2.2.2.2.2.2.2.2.2.2.2.2.2.2.2.2.2.2.2.1 u.2.2.2.2.2.2.2.2.2.2.2.2.2.2.2.2.2.2.2.2.2.2.2.2.2.2.2.2.2.1 u.2.2.2.2.2.2.2.2.2.2.2.2.2.2.2.2.2.2.2.2.2.2.2.2.2.2.2.2.2.2.1 u.2.2.2.2.2.2.2.2.2.2.2.2.2.2.2.2.2.2.2.2.2.2.2.2.2.2.2.2.2.2.2 := by
  have hFL := cs_FLk (b := k / 4) hs1 hs2 he2
  obtain ⟨hS0, hP, c2⟩ := hH2
  obtain ⟨g0, g1, g2, g3, g4, g5, g6⟩ := c2 i hi
  have hl := hFL i
  refine pk_loop (fun n j s => wL_lawOf_119 post mc ms J x0 x1 (nI to) (nI k) (nI sz) (nI 4) (nI i) kc ks n (nI j) s.1 s.2.1 s.2.2.1 s.2.2.2.1 s.2.2.2.2.1 s.2.2.2.2.2.1 s.2.2.2.2.2.2.1 s.2.2.2.2.2.2.2.1 s.2.2.2.2.2.2.2.2.1 s.2.2.2.2.2.2.2.2.2.1 s.2.2.2.2.2.2.2.2.2.2.1 s.2.2.2.2.2.2.2.2.2.2.2.1 s.2.2.2.2.2.2.2.2.2.2.2.2.1 s.2.2.2.2.2.2.2.2.2.2.2.2.2.1 s.2.2.2.2.2.2.2.2.2.2.2.2.2.2.1 s.2.2.2.2.2.2.2.2.2.2.2.2.2.2.2.1 s.2.2.2.2.2.2.2.2.2.2.2.2.2.2.2.2.1 s.2.2.2.2.2.2.2.2.2.2.2.2.2.2.2.2.2.1 s.2.2.2.2.2.2.2.2.2.2.2.2.2.2.2.2.2.2.1 s.2.2.2.2.2.2.2.2.2.2.2.2.2.2.2.2.2.2.2.1 s.2.2.2.2.2.2.2.2.2.2.2.2.2.2.2.2.2.2.2.2.1 s.2.2.2.2.2.2.2.2.2.2.2.2.2.2.2.2.2.2.2.2.2.1 s.2.2.2.2.2.2.2.2.2.2.2.2.2.2.2.2.2.2.2.2.2.2.1 s.2.2.2.2.2.2.2.2.2.2.2.2.2.2.2.2.2.2.2.2.2.2.2.1 s.2.2.2.2.2.2.2.2.2.2.2.2.2.2.2.2.2.2.2.2.2.2.2.2.1 s.2.2.2.2.2.2.2.2.2.2.2.2.2.2.2.2.2.2.2.2.2.2.2.2.2.1 s.2.2.2.2.2.2.2.2.2.2.2.2.2.2.2.2.2.2.2.2.2.2.2.2.2.2.1 s.2.2.2.2.2.2.2.2.2.2.2.2.2.2.2.2.2.2.2.2.2.2.2.2.2.2.2.1 s.2.2.2.2.2.2.2.2.2.2.2.2.2.2.2.2.2.2.2.2.2.2.2.2.2.2.2.2.1 s.2.2.2.2.2.2.2.2.2.2.2.2.2.2.2.2.2.2.2.2.2.2.2.2.2.2.2.2.2.1 s.2.2.2.2.2.2.2.2.2.2.2.2.2.2.2.2.2.2.2.2.2.2.2.2.2.2.2.2.2.2.1 s.2.2.2.2.2.2.2.2.2.2.2.2.2.2.2.2.2.2.2.2.2.2.2.2.2.2.2.2.2.2.2) (fun j s => ∃ bb, cs_R to (cs_FL sz e (k / 4)) (cs_FB x1 (k / 4)) 0 bb (cs_pj i (P i) j) s) 2 0 u (by omega) ⟨bb, hR⟩ (fun n s h => ?_) (fun n j s hj h hw => ?_)
  · obtain ⟨bb, h⟩ := h
    obtain ⟨f0, f1, f2, a1, a2, a3, a4, a5, a6, a7, a8, a9, a10, a11, a12, a13, a14, a15, a16, a17, a18, a19, a20, a21, a22, a23, a24, a25, a26, a27, a28, a29⟩ := s
    have e4 : nI i + 4 = nI (i + 4) := nI_add i 4
    refine pk_le 2 2 (fun _ => ?_) (fun z => absurd z (by omega))
    dsimp only
    rw [e4]
    refine cs_runR (m := 1) (by omega) h (fun u1 h1 => ?_)
    obtain ⟨f0, f1, f2, a1, a2, a3, a4, a5, a6, a7, a8, a9, a10, a11, a12, a13, a14, a15, a16, a17, a18, a19, a20, a21, a22, a23, a24, a25, a26, a27, a28, a29⟩ := u1
    refine cs_postF (by omega) (by omega) (by omega) g2 g3 h1 (br_t rfl (cs_postR (c := i + 4) hFL (by omega) g1 g4 (by omega) ?_ (fun t hz => ?_) h1 (fun u2 h2 => ?_)))
    · rw [g5, g6]
      unfold cs_FL
      rw [if_neg (by omega), if_neg (by omega)]
    · have tz : t = 0 := by omega
      rw [tz, g5, g6]
      unfold cs_FB
      rw [if_neg (by omega), if_neg (by omega)]
      decide
    · rw [hP i] at h2
      have t := H _ u2 h2
      obtain ⟨f0, f1, f2, a1, a2, a3, a4, a5, a6, a7, a8, a9, a10, a11, a12, a13, a14, a15, a16, a17, a18, a19, a20, a21, a22, a23, a24, a25, a26, a27, a28, a29⟩ := u2
      refine br_t ?_ (nm_r (nI_1 i) t)
      unfold cs_cl
      rw [if_neg (by omega)]
      rfl
  · obtain ⟨bb, h⟩ := h
    obtain ⟨f0, f1, f2, a1, a2, a3, a4, a5, a6, a7, a8, a9, a10, a11, a12, a13, a14, a15, a16, a17, a18, a19, a20, a21, a22, a23, a24, a25, a26, a27, a28, a29⟩ := s
    obtain ⟨w1, w2, w3, w4, w5, w6⟩ := g0 j hj
    refine pk_le 2 j (fun z => absurd z (by omega)) (fun _ => ?_)
    refine cs_runR (m := sz) hs2 h (fun u1 h1 => ?_)
    obtain ⟨f0, f1, f2, a1, a2, a3, a4, a5, a6, a7, a8, a9, a10, a11, a12, a13, a14, a15, a16, a17, a18, a19, a20, a21, a22, a23, a24, a25, a26, a27, a28, a29⟩ := u1
    refine cs_postR (c := i) hFL (by omega) w1 w2 (by omega) ?_ (fun t hz => ?_) h1 (fun u2 h2 => ?_)
    · unfold cs_FL
      rw [if_pos (by omega)]
    · rw [w3, w4]
      unfold cs_FB
      rw [if_pos (by omega)]
      have e5 : (10 : Int32) * nI i + nI j = nI (10 * i + j) := cs_ma 10 i j
      have e6 : (1 : Int32) * nI t = nI (1 * t) := pk_mul 1 t
      rw [e5, e6, nI_add, (cs_t1 _ (by omega)).2, show 10 * i + j + 1 * t = 10 * i + (0 + j) + t by omega]
    · have t := hw u2 ⟨_, h2⟩
      obtain ⟨f0, f1, f2, a1, a2, a3, a4, a5, a6, a7, a8, a9, a10, a11, a12, a13, a14, a15, a16, a17, a18, a19, a20, a21, a22, a23, a24, a25, a26, a27, a28, a29⟩ := u2
      refine br_t ?_ (cs_waitingR (by omega) w5 h2 (br_t ?_ (nm_r (nI_1 j) t)))
      · unfold cs_cl
        rw [if_pos (by omega)]
      · rw [w6, nI_1]
theorem cs_L109 {u : St2} {bb : Nat → Int32} (hp : post 1 ()) (ht : to < 4) (hk : k < 5) (hk2 : 2 ≤ k) (hx : x < 4) (hH : cs_H6 k F) (hH5 : cs_H5 k x E F) (hH4 : cs_H4 k S E) (hH2 : cs_H2 k P S) (hx0 : x0 &&& 3 = nI x) (hs1 : 20 ≤ sz) (hs2 : sz ≤ 27) (he2 : e < 2) (he : (x1 >>> ((8 : Int32) &&& 31)) &&& 1 = nI e)
    (hR : cs_R to (cs_FL sz e (k / 4)) (cs_FB x1 (k / 4)) 0 bb (P 0) u) : ∃ n, wL_lawOf_109 post mc ms x0 x1 (nI to) (nI k) (nI sz) (nI 4) kc ks n 0 u.1 u.2.1 u.2.2.1 u.2.2.2.1 u.2.2.2.2.1 u.2.2.2.2.2.1 u.2.2.2.2.2.2.1 u.2.2.2.2.2.2.2.1 u.2.2.2.2.2.2.2.2.1 u.2.2.2.2.2.2.2.2.2.1 u.2.2.2.2.2.2.2.2.2.2.1 u.2.2.2.2.2.2.2.2.2.2.2.1 u.2.2.2.2.2.2.2.2.2.2.2.2.1 u.2.2.2.2.2.2.2.2.2.2.2.2.2.1 u.2.2.2.2.2.2.2.2.2.2.2.2.2.2.1 u.2.2.2.2.2.2.2.2.2.2.2.2.2.2.2.1 u.2.2.2.2.2.2.2.2.2.2.2.2.2.2.2.2.1 u.2.2.2.2.2.2.2.2.2.2.2.2.2.2.2.2.2.1 u.2.2.2.2.2.2.2.2.2.2.2.2.2.2.2.2.2.2.1 u.2.2.2.2.2.2.2.2.2.2.2.2.2.2.2.2.2.2.2.1 u.2.2.2.2.2.2.2.2.2.2.2.2.2.2.2.2.2.2.2.2.1 u.2.2.2.2.2.2.2.2.2.2.2.2.2.2.2.2.2.2.2.2.2.1 u.2.2.2.2.2.2.2.2.2.2.2.2.2.2.2.2.2.2.2.2.2.2.1 u.2.2.2.2.2.2.2.2.2.2.2.2.2.2.2.2.2.2.2.2.2.2.2.1 u.2.2.2.2.2.2.2.2.2.2.2.2.2.2.2.2.2.2.2.2.2.2.2.2.1 u.2.2.2.2.2.2.2.2.2.2.2.2.2.2.2.2.2.2.2.2.2.2.2.2.2.1 u.2.2.2.2.2.2.2.2.2.2.2.2.2.2.2.2.2.2.2.2.2.2.2.2.2.2.1 u.2.2.2.2.2.2.2.2.2.2.2.2.2.2.2.2.2.2.2.2.2.2.2.2.2.2.2.1 u.2.2.2.2.2.2.2.2.2.2.2.2.2.2.2.2.2.2.2.2.2.2.2.2.2.2.2.2.1 u.2.2.2.2.2.2.2.2.2.2.2.2.2.2.2.2.2.2.2.2.2.2.2.2.2.2.2.2.2.1 u.2.2.2.2.2.2.2.2.2.2.2.2.2.2.2.2.2.2.2.2.2.2.2.2.2.2.2.2.2.2.1 u.2.2.2.2.2.2.2.2.2.2.2.2.2.2.2.2.2.2.2.2.2.2.2.2.2.2.2.2.2.2.2 := by
  refine pk_loop (fun n i s => wL_lawOf_109 post mc ms x0 x1 (nI to) (nI k) (nI sz) (nI 4) kc ks n (nI i) s.1 s.2.1 s.2.2.1 s.2.2.2.1 s.2.2.2.2.1 s.2.2.2.2.2.1 s.2.2.2.2.2.2.1 s.2.2.2.2.2.2.2.1 s.2.2.2.2.2.2.2.2.1 s.2.2.2.2.2.2.2.2.2.1 s.2.2.2.2.2.2.2.2.2.2.1 s.2.2.2.2.2.2.2.2.2.2.2.1 s.2.2.2.2.2.2.2.2.2.2.2.2.1 s.2.2.2.2.2.2.2.2.2.2.2.2.2.1 s.2.2.2.2.2.2.2.2.2.2.2.2.2.2.1 s.2.2.2.2.2.2.2.2.2.2.2.2.2.2.2.1 s.2.2.2.2.2.2.2.2.2.2.2.2.2.2.2.2.1 s.2.2.2.2.2.2.2.2.2.2.2.2.2.2.2.2.2.1 s.2.2.2.2.2.2.2.2.2.2.2.2.2.2.2.2.2.2.1 s.2.2.2.2.2.2.2.2.2.2.2.2.2.2.2.2.2.2.2.1 s.2.2.2.2.2.2.2.2.2.2.2.2.2.2.2.2.2.2.2.2.1 s.2.2.2.2.2.2.2.2.2.2.2.2.2.2.2.2.2.2.2.2.2.1 s.2.2.2.2.2.2.2.2.2.2.2.2.2.2.2.2.2.2.2.2.2.2.1 s.2.2.2.2.2.2.2.2.2.2.2.2.2.2.2.2.2.2.2.2.2.2.2.1 s.2.2.2.2.2.2.2.2.2.2.2.2.2.2.2.2.2.2.2.2.2.2.2.2.1 s.2.2.2.2.2.2.2.2.2.2.2.2.2.2.2.2.2.2.2.2.2.2.2.2.2.1 s.2.2.2.2.2.2.2.2.2.2.2.2.2.2.2.2.2.2.2.2.2.2.2.2.2.2.1 s.2.2.2.2.2.2.2.2.2.2.2.2.2.2.2.2.2.2.2.2.2.2.2.2.2.2.2.1 s.2.2.2.2.2.2.2.2.2.2.2.2.2.2.2.2.2.2.2.2.2.2.2.2.2.2.2.2.1 s.2.2.2.2.2.2.2.2.2.2.2.2.2.2.2.2.2.2.2.2.2.2.2.2.2.2.2.2.2.1 s.2.2.2.2.2.2.2.2.2.2.2.2.2.2.2.2.2.2.2.2.2.2.2.2.2.2.2.2.2.2.1 s.2.2.2.2.2.2.2.2.2.2.2.2.2.2.2.2.2.2.2.2.2.2.2.2.2.2.2.2.2.2.2) (fun i s => ∃ bb, cs_R to (cs_FL sz e (k / 4)) (cs_FB x1 (k / 4)) 0 bb (P i) s) k 0 u (by omega) ⟨bb, hR⟩ (fun n s h => ?_) (fun n i s hi h hw => ?_)
  · obtain ⟨bb, h⟩ := h
    rw [← hH2.1] at h
    exact pk_le k k (fun _ => cs_L227 (u := s) hp ht hk hk2 hx hH hH5 hH4 hx0 hs1 hs2 he2 he h) (fun z => absurd z (by omega))
  · obtain ⟨bb, h⟩ := h
    exact pk_le k i (fun z => absurd z (by omega)) (fun _ => cs_L119 (u := s) (sz := sz) (e := e) ht hk hk2 hH2 hs1 hs2 he2 hi h (fun bb s' h' => hw s' ⟨bb, h'⟩))
theorem cs_L29 {u : St2} {bb : Nat → Int32} (hp : post 1 ()) (ht : to < 4) (hk : k < 5) (hk2 : 2 ≤ k) (hx : x < 4) (hH : cs_H6 k F) (hH5 : cs_H5 k x E F) (hH4 : cs_H4 k S E) (hH2 : cs_H2 k P S) (hH1 : cs_H1 k O P) (hx0 : x0 &&& 3 = nI x) (hs1 : 20 ≤ sz) (hs2 : sz ≤ 27) (he2 : e < 2) (he : (x1 >>> ((8 : Int32) &&& 31)) &&& 1 = nI e)
    (hsz : 20 + ((x2 >>> ((10 : Int32) &&& 31)) &&& 7) = nI sz)
    (hR : cs_R to (cs_FL sz e (k / 4)) (cs_FB x1 (k / 4)) 0 bb cs_M0 u) : ∃ n, wL_lawOf_29 post mc ms x0 x1 x2 (nI to) (nI k) kc ks n 0 u.1 u.2.1 u.2.2.1 u.2.2.2.1 u.2.2.2.2.1 u.2.2.2.2.2.1 u.2.2.2.2.2.2.1 u.2.2.2.2.2.2.2.1 u.2.2.2.2.2.2.2.2.1 u.2.2.2.2.2.2.2.2.2.1 u.2.2.2.2.2.2.2.2.2.2.1 u.2.2.2.2.2.2.2.2.2.2.2.1 u.2.2.2.2.2.2.2.2.2.2.2.2.1 u.2.2.2.2.2.2.2.2.2.2.2.2.2.1 u.2.2.2.2.2.2.2.2.2.2.2.2.2.2.1 u.2.2.2.2.2.2.2.2.2.2.2.2.2.2.2.1 u.2.2.2.2.2.2.2.2.2.2.2.2.2.2.2.2.1 u.2.2.2.2.2.2.2.2.2.2.2.2.2.2.2.2.2.1 u.2.2.2.2.2.2.2.2.2.2.2.2.2.2.2.2.2.2.1 u.2.2.2.2.2.2.2.2.2.2.2.2.2.2.2.2.2.2.2.1 u.2.2.2.2.2.2.2.2.2.2.2.2.2.2.2.2.2.2.2.2.1 u.2.2.2.2.2.2.2.2.2.2.2.2.2.2.2.2.2.2.2.2.2.1 u.2.2.2.2.2.2.2.2.2.2.2.2.2.2.2.2.2.2.2.2.2.2.1 u.2.2.2.2.2.2.2.2.2.2.2.2.2.2.2.2.2.2.2.2.2.2.2.1 u.2.2.2.2.2.2.2.2.2.2.2.2.2.2.2.2.2.2.2.2.2.2.2.2.1 u.2.2.2.2.2.2.2.2.2.2.2.2.2.2.2.2.2.2.2.2.2.2.2.2.2.1 u.2.2.2.2.2.2.2.2.2.2.2.2.2.2.2.2.2.2.2.2.2.2.2.2.2.2.1 u.2.2.2.2.2.2.2.2.2.2.2.2.2.2.2.2.2.2.2.2.2.2.2.2.2.2.2.1 u.2.2.2.2.2.2.2.2.2.2.2.2.2.2.2.2.2.2.2.2.2.2.2.2.2.2.2.2.1 u.2.2.2.2.2.2.2.2.2.2.2.2.2.2.2.2.2.2.2.2.2.2.2.2.2.2.2.2.2.1 u.2.2.2.2.2.2.2.2.2.2.2.2.2.2.2.2.2.2.2.2.2.2.2.2.2.2.2.2.2.2.1 u.2.2.2.2.2.2.2.2.2.2.2.2.2.2.2.2.2.2.2.2.2.2.2.2.2.2.2.2.2.2.2 := by
  obtain ⟨hO0, hOk, hO, c1⟩ := hH1
  rw [← hO0] at hR
  refine pk_loop (fun n i s => wL_lawOf_29 post mc ms x0 x1 x2 (nI to) (nI k) kc ks n (nI i) s.1 s.2.1 s.2.2.1 s.2.2.2.1 s.2.2.2.2.1 s.2.2.2.2.2.1 s.2.2.2.2.2.2.1 s.2.2.2.2.2.2.2.1 s.2.2.2.2.2.2.2.2.1 s.2.2.2.2.2.2.2.2.2.1 s.2.2.2.2.2.2.2.2.2.2.1 s.2.2.2.2.2.2.2.2.2.2.2.1 s.2.2.2.2.2.2.2.2.2.2.2.2.1 s.2.2.2.2.2.2.2.2.2.2.2.2.2.1 s.2.2.2.2.2.2.2.2.2.2.2.2.2.2.1 s.2.2.2.2.2.2.2.2.2.2.2.2.2.2.2.1 s.2.2.2.2.2.2.2.2.2.2.2.2.2.2.2.2.1 s.2.2.2.2.2.2.2.2.2.2.2.2.2.2.2.2.2.1 s.2.2.2.2.2.2.2.2.2.2.2.2.2.2.2.2.2.2.1 s.2.2.2.2.2.2.2.2.2.2.2.2.2.2.2.2.2.2.2.1 s.2.2.2.2.2.2.2.2.2.2.2.2.2.2.2.2.2.2.2.2.1 s.2.2.2.2.2.2.2.2.2.2.2.2.2.2.2.2.2.2.2.2.2.1 s.2.2.2.2.2.2.2.2.2.2.2.2.2.2.2.2.2.2.2.2.2.2.1 s.2.2.2.2.2.2.2.2.2.2.2.2.2.2.2.2.2.2.2.2.2.2.2.1 s.2.2.2.2.2.2.2.2.2.2.2.2.2.2.2.2.2.2.2.2.2.2.2.2.1 s.2.2.2.2.2.2.2.2.2.2.2.2.2.2.2.2.2.2.2.2.2.2.2.2.2.1 s.2.2.2.2.2.2.2.2.2.2.2.2.2.2.2.2.2.2.2.2.2.2.2.2.2.2.1 s.2.2.2.2.2.2.2.2.2.2.2.2.2.2.2.2.2.2.2.2.2.2.2.2.2.2.2.1 s.2.2.2.2.2.2.2.2.2.2.2.2.2.2.2.2.2.2.2.2.2.2.2.2.2.2.2.2.1 s.2.2.2.2.2.2.2.2.2.2.2.2.2.2.2.2.2.2.2.2.2.2.2.2.2.2.2.2.2.1 s.2.2.2.2.2.2.2.2.2.2.2.2.2.2.2.2.2.2.2.2.2.2.2.2.2.2.2.2.2.2.1 s.2.2.2.2.2.2.2.2.2.2.2.2.2.2.2.2.2.2.2.2.2.2.2.2.2.2.2.2.2.2.2) (fun i s => cs_R to (cs_FL sz e (k / 4)) (cs_FB x1 (k / 4)) 0 bb (O i) s) k 0 u (by omega) hR (fun n s h => ?_) (fun n i s hi h hw => ?_)
  · rw [hOk] at h
    refine pk_le k k (fun _ => nm_r hsz ⟨by decide, nm_r (e' := nI 4) ?_ (cs_L109 (u := s) hp ht hk hk2 hx hH hH5 hH4 hH2 hx0 hs1 hs2 he2 he h)⟩) (fun z => absurd z (by omega))
    rw [cs_ce (by omega), show (sz + 12) / 8 = 4 by omega]
  · obtain ⟨f0, f1, f2, a1, a2, a3, a4, a5, a6, a7, a8, a9, a10, a11, a12, a13, a14, a15, a16, a17, a18, a19, a20, a21, a22, a23, a24, a25, a26, a27, a28, a29⟩ := s
    obtain ⟨g1, g2, g3, g4⟩ := c1 i (by omega)
    have e4 : nI i + 4 = nI (i + 4) := nI_add i 4
    have e5 : (4 : Int32) * nI i + nI to = nI (4 * i + to) := cs_ma 4 i to
    refine pk_le k i (fun z => absurd z (by omega)) (fun _ => ?_)
    dsimp only
    rw [e4, e5]
    refine cs_openR (c := i) (s := i) ht (by omega) (by omega) g1 g2 h (fun u1 h1 => ?_)
    obtain ⟨f0, f1, f2, a1, a2, a3, a4, a5, a6, a7, a8, a9, a10, a11, a12, a13, a14, a15, a16, a17, a18, a19, a20, a21, a22, a23, a24, a25, a26, a27, a28, a29⟩ := u1
    refine br_t rfl (cs_openR (c := i + 4) (s := i) ht (by omega) (by omega) g3 g4 h1 (fun u2 h2 => ?_))
    rw [hO i] at h2
    have t := hw u2 h2
    obtain ⟨f0, f1, f2, a1, a2, a3, a4, a5, a6, a7, a8, a9, a10, a11, a12, a13, a14, a15, a16, a17, a18, a19, a20, a21, a22, a23, a24, a25, a26, a27, a28, a29⟩ := u2
    exact br_t rfl (nm_r (nI_1 i) t)
theorem cs_z8 : (fun _ => 0 : Nat → Int32) = cs_v [0, 0, 0, 0, 0, 0, 0, 0] := by
  funext j
  match j with
  | 0 => rfl
  | 1 => rfl
  | 2 => rfl
  | 3 => rfl
  | 4 => rfl
  | 5 => rfl
  | 6 => rfl
  | 7 => rfl
  | j + 8 => rfl
theorem cs_z7 : (fun _ => 0 : Nat → Int32) = cs_v [0, 0, 0, 0, 0, 0, 0] := by
  funext j
  match j with
  | 0 => rfl
  | 1 => rfl
  | 2 => rfl
  | 3 => rfl
  | 4 => rfl
  | 5 => rfl
  | 6 => rfl
  | j + 7 => rfl
theorem cs_zw : (fun _ => 0 : Nat → Int32) = cs_w [1, 1, 1, 1, 1, 1, 1, 1] := by
  funext j
  match j with
  | 0 => rfl
  | 1 => rfl
  | 2 => rfl
  | 3 => rfl
  | 4 => rfl
  | 5 => rfl
  | 6 => rfl
  | 7 => rfl
  | j + 8 =>
    have g : ([1, 1, 1, 1, 1, 1, 1, 1] : List Nat).getD (j + 8) 1 = 1 := rfl
    show (0 : Int32) = nI (([1, 1, 1, 1, 1, 1, 1, 1] : List Nat).getD (j + 8) 1) - 1
    rw [g]
    rfl
theorem cs_zo (t : Nat) : (fun _ => 0 : Nat → Int32) = cs_o t 0 := by
  funext j
  show (0 : Int32) = if j = t then nI 0 else 0
  split <;> rfl
theorem cs_z4 : va_cpy (fun _ => 7) (fun _ => 0) 0 0 4 = cs_v [7, 7, 7, 7] := by
  funext j
  match j with
  | 0 => rfl
  | 1 => rfl
  | 2 => rfl
  | 3 => rfl
  | j + 4 =>
    rw [pk_cpy_out (by omega)]
    rfl
theorem cs_g0 : ∀ c, c < 8 → ([0, 0, 0, 0, 0, 0, 0, 0] : List Nat).getD c 0 = 0 := by decide
theorem cs_initR {post : St2 → Prop} {FL : Nat → Nat → Nat} {FB : Nat → Nat → Nat → Int32} {bb : Nat → Int32} (H : ∀ u, cs_R to FL FB 0 bb cs_M0 u → post u) : wpX_init post 800 14000 (0, 0, 0) := by
  unfold wpX_init
  refine ⟨by decide, by decide, by decide, by decide, by decide, by decide, by decide, by decide, by decide, by decide, by decide, by decide, by decide, by decide, by decide, by decide, by decide, by decide, by decide, by decide, by decide, by decide, by decide, by decide, by decide, by decide, by decide, by decide, by decide, by decide, by decide, by decide, by decide, by decide, by decide, by decide, by decide, by decide, by decide, by decide, by decide, by decide, by decide, by decide, by decide, by decide, by decide, by decide, by decide, by decide, by decide, by decide, by decide, by decide, by decide, by decide, by decide, by decide, ?_⟩
  refine cs_lp (fun n i a => wX_init_236 post 800 14000 29 1630 0 0 0 n (nI i) (fun _ => 0) (fun _ => 0) (fun _ => 0) (fun _ => 0) (fun _ => 0) (fun _ => 0) (fun _ => 0) (fun _ => 0) (fun _ => 0) (fun _ => 0) (fun _ => 0) (fun _ => 0) (fun _ => 0) (fun _ => 0) a (fun _ => 0) (fun _ => 0) (fun _ => 0) (fun _ => 0) (fun _ => 0) (fun _ => 0) (fun _ => 0) (fun _ => 0) (fun _ => 0) (fun _ => 0) (fun _ => 0) (fun _ => 0) (fun _ => 0) (fun _ => 0)) (fun i => va_cpy (fun _ => 7) (fun _ => 0) 0 0 i) 4 (fun _ => 0) (cs_cp0 _ _ _ _) (fun n => ?_) (fun n i hi hw => ?_)
  · refine pk_le 4 4 (fun _ => H _ ?_) (fun z => absurd z (by omega))
    refine ⟨0, fun _ => 0, fun _ => 0, fun _ => 0, fun _ => 0, fun _ => 0, fun _ => 0, fun _ => 0, fun _ => 0, fun _ => 0, fun _ => 0, fun _ => 0, fun _ => 0, fun _ => 0, ?_, ?_, ?_, ?_, ?_, ?_, ?_⟩
    · intro c hc h
      exact absurd (cs_g0 c hc) h
    · intro c hc j hj
      rw [cs_g0 c hc] at hj
      exact absurd hj (by omega)
    · intro j c n k h
      exact absurd h (by simp)
    · intro c hc i hi
      rw [cs_g0 c hc] at hi
      exact absurd hi (by omega)
    · intro j c n h
      exact absurd h (by simp)
    · intro i hi
      exact absurd hi (by omega)
    · rw [cs_z4, ← cs_z8, ← cs_z7, ← cs_zw]
      show _ = (nI 0, nI 0, 0, _)
      rw [show ([] : List (Nat × Nat × Nat)).length = 0 from rfl, show ([] : List (Nat × Nat)).length = 0 from rfl, ← cs_zo]
      rfl
  · refine pk_le 4 i (fun z => absurd z (by omega)) (fun _ => ⟨pk_in i 4 hi, nm_r ?_ (nm_r (nI_1 i) hw)⟩)
    rw [nI_clamp (by omega)]
    have g := cs_cp (fun _ => 7) (fun _ => 0) 0 0 i
    rw [Nat.zero_add] at g
    exact g
end
theorem cs_h6 (k x : Nat) (hk : k < 5) (hk2 : 2 ≤ k) (hx : x < 4) : cs_H6 k (cs_F k x) := ⟨fun _ => rfl, cs_c6 k hk hk2 x hx, cs_c7 k hk hk2 x hx⟩
theorem cs_h5 (k x : Nat) (hk : k < 5) (hk2 : 2 ≤ k) : cs_H5 k x (cs_EN k) (cs_F k x) := ⟨rfl, cs_c5 k hk hk2⟩
theorem cs_h4 (k : Nat) (hk : k < 5) (hk2 : 2 ≤ k) : cs_H4 k (cs_ST k) (cs_EN k) := ⟨fun _ => rfl, rfl, cs_c0 k hk hk2, cs_c3 k hk hk2, cs_c4 k hk hk2⟩
theorem cs_h2 (k : Nat) (hk : k < 5) (hk2 : 2 ≤ k) : cs_H2 k (cs_PO k) (cs_ST k) := ⟨rfl, fun _ => rfl, cs_c2 k hk hk2⟩
theorem cs_h1 (k : Nat) : cs_H1 k cs_OP (cs_PO k) := ⟨rfl, rfl, fun _ => rfl, cs_c1⟩
theorem cs_lawOf {post : Int32 → St0 → Prop} {x0 x1 x2 : Int32} (hp : post 1 ()) : wpL_lawOf post 886 14160 () x0 x1 x2 := by
  obtain ⟨to, ht, e1⟩ := pk_andE x2 (m := 3) 2 (by decide)
  obtain ⟨x, hx, e2⟩ := pk_andE x0 (m := 3) 2 (by decide)
  obtain ⟨w, hw, e3⟩ := pk_andE (x2 >>> ((2 : Int32) &&& 31)) (m := 255) 8 (by decide)
  obtain ⟨s, hs, e4⟩ := pk_andE (x2 >>> ((10 : Int32) &&& 31)) (m := 7) 3 (by decide)
  obtain ⟨e, he, e5⟩ := pk_andE (x1 >>> ((8 : Int32) &&& 31)) (m := 1) 1 (by decide)
  have hk : 2 + w % 3 < 5 := by omega
  have hk2 : 2 ≤ 2 + w % 3 := by omega
  refine And.intro (by decide) ⟨by decide, 800, 14000, by decide, by decide, ?_⟩
  refine cs_initR (to := to) (FL := cs_FL (20 + s) e ((2 + w % 3) / 4)) (FB := cs_FB x1 ((2 + w % 3) / 4)) (bb := fun _ => 0) (fun u h => ?_)
  obtain ⟨f0, f1, f2, a1, a2, a3, a4, a5, a6, a7, a8, a9, a10, a11, a12, a13, a14, a15, a16, a17, a18, a19, a20, a21, a22, a23, a24, a25, a26, a27, a28, a29⟩ := u
  refine nm_r e1 ⟨by decide, nm_r (e' := nI (2 + w % 3)) ?_ ?_⟩
  · rw [e3]
    have g : nI w - nI w / nI 3 * nI 3 = nI (w % 3) := pk_rem (by omega) (by omega) (by omega)
    have g2 : nI 2 + (nI w - nI w / nI 3 * nI 3) = nI (2 + w % 3) := by rw [g, nI_add]
    exact g2
  · exact cs_L29 (u := (f0, f1, f2, a1, a2, a3, a4, a5, a6, a7, a8, a9, a10, a11, a12, a13, a14, a15, a16, a17, a18, a19, a20, a21, a22, a23, a24, a25, a26, a27, a28, a29)) (sz := 20 + s) (e := e) hp (by omega) hk hk2 hx (cs_h6 _ _ hk hk2 hx) (cs_h5 _ _ hk hk2) (cs_h4 _ hk hk2) (cs_h2 _ hk hk2) (cs_h1 _) e2 (by omega) (by omega) (by omega) e5 (by rw [e4]; exact nI_add 20 s) h
theorem cs_cellAt {post : Int32 → Prop} {L i : Nat} {xs : Nat → Int32} (hL : L ≤ 3) (hi : i < 3) (H : ∀ r, post r) : wpL_cellAt post L xs () (nI i) :=
  pk_le L i (fun _ => H 0) (fun z => ⟨pk_in i L z, H _⟩)
theorem i_vc (xs : Nat → Int32) (L : Nat) (hL : L ≤ 3) : wpL_law (fun r => r = 1) L xs :=
  cs_cellAt (i := 0) hL (by omega) (fun _ => cs_cellAt (i := 1) hL (by omega) (fun _ => cs_cellAt (i := 2) hL (by omega) (fun _ => ⟨886, 14160, by decide, by decide, cs_lawOf rfl⟩)))
end
