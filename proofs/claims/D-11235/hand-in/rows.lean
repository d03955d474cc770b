section
/-- a cost that is either small or forbidden -/
def nw_gd (q : Nat) : Prop := q < 50000 ∨ q = 100000
def nw_mo (p q : Nat) : Nat := if 50000 ≤ p then 100000 else if q < 50000 then p + q else 100000
def nw_le (p q : Nat) : Nat := if p < 50000 then p - q else 100000
def nw_cm (c : Nat) : Nat := if c = 20 then 100000 else c
theorem nw_mo_0 {q : Nat} (h : nw_gd q) : nw_mo 0 q = q := by
  unfold nw_mo
  unfold nw_gd at h
  split <;> (try split) <;> omega
theorem nw_mo_z {q : Nat} (h : nw_gd q) : nw_mo q 0 = q := by
  unfold nw_mo
  unfold nw_gd at h
  split <;> (try split) <;> omega
theorem nw_gd_lt {q : Nat} (h : nw_gd q) : q < 2 ^ 31 := by
  unfold nw_gd at h
  omega
theorem nw_gd_le {q : Nat} (h : nw_gd q) : q ≤ 100000 := by
  unfold nw_gd at h
  omega
theorem nw_gd_0 : nw_gd 0 := Or.inl (by omega)
theorem nw_more {post : Int32 → Prop} {x y : Int32} (p q : Nat) (hx : x = nI p) (hy : y = nI q) (hp : p < 2 ^ 31) (hq : q < 2 ^ 31) (H : post (nI (nw_mo p q))) : wpX_more post () x y := by
  subst hx hy
  unfold nw_mo at H
  refine pk_le 50000 p (fun z => ?_) (fun z => pk_lt q 50000 (fun z2 => ?_) (fun z2 => ?_))
  · rw [if_pos z] at H
    exact H
  · rw [if_neg (by omega), if_pos z2] at H
    rw [nI_add]
    exact H
  · rw [if_neg (by omega), if_neg (by omega)] at H
    exact H
theorem nw_less {post : Int32 → Prop} {x y : Int32} (p q : Nat) (hx : x = nI p) (hy : y = nI q) (hp : p < 2 ^ 31) (hq : q ≤ p) (H : post (nI (nw_le p q))) : wpX_less post () x y := by
  subst hx hy
  unfold nw_le at H
  refine pk_lt p 50000 (fun z => ?_) (fun z => ?_)
  · rw [if_pos z] at H
    rw [pk_sub hq]
    exact H
  · rw [if_neg (by omega)] at H
    exact H
theorem nw_asm {post : Int32 → Prop} {x : Int32} (c : Nat) (hx : x = nI c) (hc : c < 2 ^ 31) (H : post (nI (nw_cm c))) : wpX_asMoved post () x := by
  subst hx
  unfold nw_cm at H
  refine pk_eq c 20 (fun z => ?_) (fun z => ?_)
  · rw [if_pos z] at H
    exact H
  · rw [if_neg z] at H
    exact H
theorem nw_i3 (v a : Nat) : nI v * 3 + nI a = nI (v * 3 + a) := by
  rw [show (3 : Int32) = nI 3 from rfl, pk_mul, nI_add]
/-- the least of the usable places below k (f: the fixed place, 3 when free) -/
def nw_ls (f : Nat) (u : Nat → Nat) : Nat → Nat
  | 0 => 100000
  | k + 1 => if f = 3 ∨ f = k then min (nw_ls f u k) (u k) else nw_ls f u k
theorem nw_ls_le (f : Nat) (u : Nat → Nat) (k : Nat) : nw_ls f u k ≤ 100000 := by
  induction k with
  | zero => exact Nat.le_refl _
  | succ k ih =>
    show (if f = 3 ∨ f = k then min (nw_ls f u k) (u k) else nw_ls f u k) ≤ 100000
    split <;> omega
theorem nw_ls_gd (f : Nat) (u : Nat → Nat) (k : Nat) (h : ∀ a, a < k → nw_gd (u a)) : nw_gd (nw_ls f u k) := by
  induction k with
  | zero => exact Or.inr rfl
  | succ k ih =>
    have h1 := ih (fun a ha => h a (by omega))
    have h2 := h k (by omega)
    show nw_gd (if f = 3 ∨ f = k then min (nw_ls f u k) (u k) else nw_ls f u k)
    unfold nw_gd at *
    split <;> omega
theorem nw_ls_z (f : Nat) (u : Nat → Nat) (hf : f ≤ 3) (h : ∀ a, a < 3 → u a = 0) : nw_ls f u 3 = 0 := by
  have h0 := h 0 (by omega)
  have h1 := h 1 (by omega)
  have h2 := h 2 (by omega)
  show (if f = 3 ∨ f = 2 then min (if f = 3 ∨ f = 1 then min (if f = 3 ∨ f = 0 then min 100000 (u 0) else 100000) (u 1) else (if f = 3 ∨ f = 0 then min 100000 (u 0) else 100000)) (u 2) else (if f = 3 ∨ f = 1 then min (if f = 3 ∨ f = 0 then min 100000 (u 0) else 100000) (u 1) else (if f = 3 ∨ f = 0 then min 100000 (u 0) else 100000))) = 0
  rw [h0, h1, h2]
  split <;> split <;> split <;> omega
/-- the array of fixed values, the weights moved to values -/
def nw_fix (fx : Nat → Nat) (a7 : Nat → Int32) : Prop := ∀ v, v < 6 → (fx v < 3 ∧ a7 v = nI (fx v)) ∨ (fx v = 3 ∧ a7 v = -1)
def nw_one (x : Nat) (w : Nat → Nat) (a5 : Nat → Int32) : Prop := ∀ v a, v < 6 → a < 3 → a5 (v * 3 + a) = nI (if v = x then w a else 0)
theorem nw_fix_le {fx : Nat → Nat} {a7 : Nat → Int32} (h : nw_fix fx a7) {v : Nat} (hv : v < 6) : fx v ≤ 3 := by
  rcases h v hv with z | z <;> omega
theorem nw_ifle {l x A B : Nat} : (if l + 1 ≤ x then A else B) = (if l < x then A else B) := by
  by_cases h : l < x
  · rw [if_pos h, if_pos (by omega)]
  · rw [if_neg h, if_neg (by omega)]
def nw_lo (f : Nat) : Nat := if f = 3 then 0 else f
def nw_hi (f : Nat) : Nat := if f = 3 then 2 else f
end
section
section
variable {rd fl fo be : Int32} {a1 a2 a3 a4 a5 a6 a7 a8 a9 a10 a11 : Nat → Int32}
theorem nw_wt {post : Int32 → Prop} {x y z : Int32} (v a : Nat) (hv : v < 6) (ha : a < 3) (hx : x = nI v) (hy : y = nI a) (H : post (a5 (v * 3 + a))) : wpX_withTaken post (0, rd, fl, fo, be, a1, a2, a3, a4, a5, a6, a7, a8, a9, a10, a11) x y z := by
  subst hx hy
  unfold wpX_withTaken
  dsimp only
  rw [nw_i3, nI_clamp (by omega)]
  exact ⟨pk_in (v * 3 + a) 18 (by omega), nm_e ⟨1, br_t (by decide) H⟩⟩
theorem nw_ah68 {post : Int32 → Prop} {J4 J17 : Int32 → Int32 → Prop} {x1 x2 x3 : Int32} (l c i : Nat) (hl : l < 2 ^ 31) (hc : c < 2 ^ 31) (H : J17 (nI (min l c)) (nI (i + 1))) : wX_ahead_68 post J4 J17 x1 x2 x3 (nI l) (nI i) (nI c) 0 rd fl fo be a1 a2 a3 a4 a5 a6 a7 a8 a9 a10 a11 := by
  unfold wX_ahead_68
  refine pk_le l c (fun z => nm_r (nI_1 i) ?_) (fun z => nm_r (nI_1 i) ?_)
  · rw [Nat.min_eq_left z] at H
    exact H
  · rw [Nat.min_eq_right (by omega)] at H
    exact H
theorem nw_ah43 {post : Int32 → Prop} {J4 J17 : Int32 → Int32 → Prop} {x1 x2 : Int32} (v l i : Nat) (c : Nat) (hv : v < 6) (hi : i < 3) (hl : l < 2 ^ 31) (hc : c < 2 ^ 31) (h5 : a5 (v * 3 + i) = nI c) (H : J17 (nI (min l c)) (nI (i + 1))) : wX_ahead_43 post J4 J17 x1 x2 (nI v) (nI l) (nI i) 0 rd fl fo be a1 a2 a3 a4 a5 a6 a7 a8 a9 a10 a11 := by
  unfold wX_ahead_43 wX_ahead_48
  refine br_f (by decide) (nw_wt v i hv hi rfl rfl ?_)
  rw [h5]
  exact nw_ah68 l c i hl hc H
theorem nw_ah17 {post : Int32 → Prop} {J4 : Int32 → Int32 → Prop} {fx w : Nat → Nat} {x : Nat} (hf : nw_fix fx a7) (ho : nw_one x w a5) (hw : ∀ a, a < 3 → nw_gd (w a)) {fr : Int32} {s v : Nat} (hv : v < 6) (hs : s < 2 ^ 31)
    (H : J4 (nI (nw_mo s (nw_ls (fx v) (fun a => if v = x then w a else 0) 3))) (nI (v + 1))) : ∃ n, wX_ahead_17 post J4 fr (nI s) (nI v) 0 rd fl fo be a1 a2 a3 a4 a5 a6 a7 a8 a9 a10 a11 n 100000 0 := by
  refine pk_loop (σ := Unit) (fun n i _ => wX_ahead_17 post J4 fr (nI s) (nI v) 0 rd fl fo be a1 a2 a3 a4 a5 a6 a7 a8 a9 a10 a11 n (nI (nw_ls (fx v) (fun a => if v = x then w a else 0) i)) (nI i)) (fun _ _ => True) 3 0 () (by omega) trivial ?_ ?_
  · intro n _ _
    exact pk_le 3 3 (fun _ => nw_more s _ rfl rfl hs (Nat.lt_of_le_of_lt (nw_ls_le _ _ _) (by omega)) (nm_r (nI_1 v) H)) (fun z => absurd z (by omega))
  · intro n i _ hi _ hn
    have hl : nw_ls (fx v) (fun a => if v = x then w a else 0) i < 2 ^ 31 := Nat.lt_of_le_of_lt (nw_ls_le _ _ _) (by omega)
    have hg : nw_gd (if v = x then w i else 0) := by
      split
      · exact hw i hi
      · exact nw_gd_0
    have hc := nw_gd_lt hg
    have h5 := ho v i hv hi
    have hN := hn () trivial
    have hop : (fx v = 3 ∨ fx v = i) → wX_ahead_17 post J4 fr (nI s) (nI v) 0 rd fl fo be a1 a2 a3 a4 a5 a6 a7 a8 a9 a10 a11 n (nI (min (nw_ls (fx v) (fun a => if v = x then w a else 0) i) (if v = x then w i else 0))) (nI (i + 1)) := by
      intro h
      have e : nw_ls (fx v) (fun a => if v = x then w a else 0) (i + 1) = min (nw_ls (fx v) (fun a => if v = x then w a else 0) i) (if v = x then w i else 0) := if_pos h
      rw [← e]
      exact hN
    refine pk_le 3 i (fun z => absurd z (by omega)) (fun _ => ⟨pk_in v 6 hv, ?_⟩)
    rw [nI_clamp (show v < 2 ^ 31 by omega)]
    rcases hf v hv with ⟨h1, h2⟩ | ⟨h1, h2⟩
    · rw [h2]
      refine br_f (nI_pos (by omega)) ⟨pk_in v 6 hv, pk_eq (fx v) i (fun e => ?_) (fun e => ?_)⟩
      · exact nw_ah43 v _ i _ hv hi hl hc h5 (hop (Or.inr e))
      · have e2 : nw_ls (fx v) (fun a => if v = x then w a else 0) (i + 1) = nw_ls (fx v) (fun a => if v = x then w a else 0) i := if_neg (by omega)
        have hN' : wX_ahead_17 post J4 fr (nI s) (nI v) 0 rd fl fo be a1 a2 a3 a4 a5 a6 a7 a8 a9 a10 a11 n (nI (nw_ls (fx v) (fun a => if v = x then w a else 0) (i + 1))) (nI (i + 1)) := hN
        rw [e2] at hN'
        unfold wX_ahead_48
        refine br_t rfl (nw_ah68 _ 100000 i hl (by omega) ?_)
        rw [Nat.min_eq_left (nw_ls_le _ _ _)]
        exact hN'
    · rw [h2]
      exact br_t (by decide) (nw_ah43 v _ i _ hv hi hl hc h5 (hop (Or.inl h1)))
theorem nw_ahead {post : Int32 → Prop} {fx w : Nat → Nat} {x : Nat} (hx : x < 6) (hf : nw_fix fx a7) (ho : nw_one x w a5) (hw : ∀ a, a < 3 → nw_gd (w a)) {fr : Nat} (hr : fr ≤ 6)
    (H : post (nI (if fr ≤ x then nw_ls (fx x) w 3 else 0))) : wpX_ahead post (0, rd, fl, fo, be, a1, a2, a3, a4, a5, a6, a7, a8, a9, a10, a11) (nI fr) := by
  unfold wpX_ahead
  dsimp only
  have hm : nw_gd (nw_ls (fx x) w 3) := nw_ls_gd _ _ _ hw
  suffices h : ∃ n, wX_ahead_4 post (nI fr) 0 rd fl fo be a1 a2 a3 a4 a5 a6 a7 a8 a9 a10 a11 n (nI (if fr ≤ x ∧ x < fr then nw_ls (fx x) w 3 else 0)) (nI fr) by
    obtain ⟨n, hn⟩ := h
    rw [if_neg (by omega)] at hn
    exact ⟨n, hn⟩
  refine pk_loop (σ := Unit) (fun n i _ => wX_ahead_4 post (nI fr) 0 rd fl fo be a1 a2 a3 a4 a5 a6 a7 a8 a9 a10 a11 n (nI (if fr ≤ x ∧ x < i then nw_ls (fx x) w 3 else 0)) (nI i)) (fun i _ => fr ≤ i) 6 fr () hr (Nat.le_refl _) ?_ ?_
  · intro n _ _
    refine pk_le 6 6 (fun _ => ?_) (fun z => absurd z (by omega))
    have e : (if fr ≤ x ∧ x < 6 then nw_ls (fx x) w 3 else 0) = (if fr ≤ x then nw_ls (fx x) w 3 else 0) := by
      by_cases z : fr ≤ x
      · rw [if_pos z, if_pos ⟨z, hx⟩]
      · rw [if_neg z, if_neg (fun y => z y.1)]
    rw [e]
    exact H
  · intro n i _ hi hfi hn
    refine pk_le 6 i (fun z => absurd z (by omega)) (fun _ => ?_)
    refine nw_ah17 hf ho hw hi (by split <;> first | exact nw_gd_lt hm | omega) ?_
    have hN : wX_ahead_4 post (nI fr) 0 rd fl fo be a1 a2 a3 a4 a5 a6 a7 a8 a9 a10 a11 n (nI (if fr ≤ x ∧ x < i + 1 then nw_ls (fx x) w 3 else 0)) (nI (i + 1)) := hn () (by omega)
    have e : nw_mo (if fr ≤ x ∧ x < i then nw_ls (fx x) w 3 else 0) (nw_ls (fx i) (fun a => if i = x then w a else 0) 3) = (if fr ≤ x ∧ x < i + 1 then nw_ls (fx x) w 3 else 0) := by
      by_cases ex : i = x
      · subst ex
        rw [if_neg (show ¬ (fr ≤ i ∧ i < i) by omega), if_pos (show fr ≤ i ∧ i < i + 1 by omega)]
        have e2 : (fun a => if i = i then w a else 0) = w := by
          funext a
          exact if_pos rfl
        rw [e2]
        exact nw_mo_0 hm
      · rw [nw_ls_z (fx i) _ (nw_fix_le hf hi) (fun a _ => if_neg ex), nw_mo_z (by split; exact hm; exact nw_gd_0)]
        have hq : (fr ≤ x ∧ x < i) ↔ (fr ≤ x ∧ x < i + 1) := by omega
        simp only [hq]
    rw [e]
    exact hN
end
end
section
section
variable {rd fl fo be : Int32} {a1 a2 a3 a4 a5 a6 a7 a8 a9 a10 a11 : Nat → Int32}
theorem nw_take {post : St2 → Prop} {xx : Int32} (x f b t : Nat) (hx : x < 6) (hb : b < 2 ^ 31) (ht : t < 2 ^ 31) (hxx : xx = nI t)
    (H : ∀ c11 : Nat → Int32, c11 x = (if b ≤ t then a11 x else a8 x) → post (0, rd, fl, nI (f + 1), nI (if b ≤ t then b else t), a1, a2, a3, a4, a5, a6, a7, a8, a9, a10, c11)) : wpX_take post (0, rd, fl, nI f, nI b, a1, a2, a3, a4, a5, a6, a7, a8, a9, a10, a11) xx := by
  subst hxx
  unfold wpX_take
  dsimp only
  refine nm_r (nI_1 f) (pk_le b t (fun z => ?_) (fun z => ?_))
  · have h := H a11 (if_pos z).symm
    rw [if_pos z] at h
    exact h
  · have z' : ¬ b ≤ t := by omega
    refine pk_loop (fun n i s => wX_take_25 post 0 rd fl (nI (f + 1)) (nI t) n (nI i) a1 a2 a3 a4 a5 a6 a7 a8 a9 a10 s) (fun i s => ∀ j, j < i → s j = a8 j) 6 0 a11 (by omega) (fun j hj => absurd hj (by omega)) ?_ ?_
    · intro n s hs
      refine pk_le 6 6 (fun _ => ?_) (fun z => absurd z (by omega))
      have h := H s (by rw [if_neg z']; exact hs x hx)
      rw [if_neg z'] at h
      exact h
    · intro n i s hi hs hn
      refine pk_le 6 i (fun z => absurd z (by omega)) (fun _ => ⟨pk_in i 6 hi, pk_in i 6 hi, nm_e (nm_r (nI_1 i) (hn _ ?_))⟩)
      rw [nI_clamp (by omega)]
      intro j hj
      by_cases e : j = i
      · rw [e, pk_us]
      · rw [pk_un e]
        exact hs j (by omega)
theorem nw_open {post : St2 → Prop} {fx : Nat → Nat} {xx : Int32} (v : Nat) (hv : v < 6) (hxx : xx = nI v) (hf : nw_fix fx a7) (H : post (0, rd, fl, fo, be, a1, a2, a3, a4, a5, a6, a7, a8, a9, upd a10 v (nI (nw_lo (fx v))), a11)) : wpX_open post (0, rd, fl, fo, be, a1, a2, a3, a4, a5, a6, a7, a8, a9, a10, a11) xx := by
  subst hxx
  unfold wpX_open
  dsimp only
  rw [nI_clamp (show v < 2 ^ 31 by omega)]
  unfold nw_lo at H
  rcases hf v hv with ⟨h1, h2⟩ | ⟨h1, h2⟩
  · rw [if_neg (by omega)] at H
    rw [h2]
    exact ⟨pk_in v 6 hv, br_f (nI_pos (by omega)) ⟨pk_in v 6 hv, pk_in v 6 hv, nm_e H⟩⟩
  · rw [if_pos h1] at H
    rw [h2]
    exact ⟨pk_in v 6 hv, br_t (by decide) ⟨pk_in v 6 hv, nm_e H⟩⟩
theorem nw_last {post : Int32 → Prop} {fx : Nat → Nat} {xx : Int32} (v : Nat) (hv : v < 6) (hxx : xx = nI v) (hf : nw_fix fx a7) (H : post (nI (nw_hi (fx v)))) : wpX_lastValue post (0, rd, fl, fo, be, a1, a2, a3, a4, a5, a6, a7, a8, a9, a10, a11) xx := by
  subst hxx
  unfold wpX_lastValue
  dsimp only
  rw [nI_clamp (show v < 2 ^ 31 by omega)]
  unfold nw_hi at H
  rcases hf v hv with ⟨h1, h2⟩ | ⟨h1, h2⟩
  · rw [if_neg (by omega)] at H
    rw [h2]
    exact ⟨pk_in v 6 hv, br_f (nI_pos (by omega)) ⟨pk_in v 6 hv, H⟩⟩
  · rw [if_pos h1] at H
    rw [h2]
    exact ⟨pk_in v 6 hv, br_t (by decide) H⟩
theorem nw_desc19 {post : Int32 → St2 → Prop} {fx : Nat → Nat} {x l q r t f b : Nat} {z zr : Int32} (hx : x < 6) (hl : l < 6) (hf : nw_fix fx a7) (hq : a9 (l + 1) = nI q) (gq : q < 2 ^ 31) (gr : r < 2 ^ 31) (hzr : zr = nI r) (gb : b < 2 ^ 31) (ht : t = nw_mo q r) (gt : t < 2 ^ 31)
    (H0 : ¬ (t < 50000 ∧ nI t ≤ z) → post (nI l) (0, rd, fl, nI f, nI b, a1, a2, a3, a4, a5, a6, a7, a8, a9, a10, a11))
    (H1 : t < 50000 → nI t ≤ z → l = 5 → ∀ c11 : Nat → Int32, c11 x = (if b ≤ q then a11 x else a8 x) → post (nI l) (0, rd, fl, nI (f + 1), nI (if b ≤ q then b else q), a1, a2, a3, a4, a5, a6, a7, a8, a9, a10, c11))
    (H2 : t < 50000 → nI t ≤ z → l < 5 → post (nI (l + 1)) (0, rd, fl, nI f, nI b, a1, a2, a3, a4, a5, a6, a7, a8, a9, upd a10 (l + 1) (nI (nw_lo (fx (l + 1)))), a11)) :
    wX_descend_19 post (nI l) z zr 0 rd fl (nI f) (nI b) a1 a2 a3 a4 a5 a6 a7 a8 a9 a10 a11 := by
  subst hzr
  unfold wX_descend_19
  rw [nI_1, nI_clamp (show l + 1 < 2 ^ 31 by omega), hq]
  refine ⟨pk_in (l + 1) 7 (by omega), nw_more q r rfl rfl gq gr ?_⟩
  rw [← ht]
  refine pk_le 50000 t (fun h => H0 (fun h3 => absurd h3.1 (by omega))) (fun h => br_c (fun h2 => ?_) (fun h2 => H0 (fun h3 => h2 h3.2)))
  refine pk_eq (l + 1) 6 (fun e => ?_) (fun e => ?_)
  · have e5 : l = 5 := by omega
    subst e5
    exact nw_take x f b q hx gb gq hq (fun c11 hc => H1 h h2 rfl c11 hc)
  · exact nw_open (l + 1) (by omega) rfl hf (H2 h h2 (by omega))
theorem nw_desc {post : Int32 → St2 → Prop} {fx w : Nat → Nat} {x l q t f b : Nat} {z : Int32} (hx : x < 6) (hl : l < 6) (hf : nw_fix fx a7) (ho : nw_one x w a5) (hw : ∀ a, a < 3 → nw_gd (w a)) (hq : a9 (l + 1) = nI q) (gq : q < 2 ^ 31) (gb : b < 2 ^ 31) (ht : t = nw_mo q (if l < x then nw_ls (fx x) w 3 else 0)) (gt : t < 2 ^ 31)
    (H0 : ¬ (t < 50000 ∧ nI t ≤ z) → post (nI l) (0, rd, fl, nI f, nI b, a1, a2, a3, a4, a5, a6, a7, a8, a9, a10, a11))
    (H1 : t < 50000 → nI t ≤ z → l = 5 → ∀ c11 : Nat → Int32, c11 x = (if b ≤ q then a11 x else a8 x) → post (nI l) (0, rd, fl, nI (f + 1), nI (if b ≤ q then b else q), a1, a2, a3, a4, a5, a6, a7, a8, a9, a10, c11))
    (H2 : t < 50000 → nI t ≤ z → l < 5 → post (nI (l + 1)) (0, rd, fl, nI f, nI b, a1, a2, a3, a4, a5, a6, a7, a8, a9, upd a10 (l + 1) (nI (nw_lo (fx (l + 1)))), a11)) :
    wpX_descend post (0, rd, fl, nI f, nI b, a1, a2, a3, a4, a5, a6, a7, a8, a9, a10, a11) (nI l) z := by
  unfold wpX_descend
  dsimp only
  have gm : (if l < x then nw_ls (fx x) w 3 else 0) < 2 ^ 31 := by
    have := nw_ls_le (fx x) w 3
    split <;> omega
  refine pk_le 6 (l + 1) (fun h => ?_) (fun h => ?_) rfl (nI_1 l)
  · rw [if_neg (by omega)] at ht
    exact nw_desc19 (r := 0) hx hl hf hq gq (by decide) rfl gb ht gt H0 H1 H2
  · rw [nI_1]
    refine nw_ahead hx hf ho hw (by omega) ?_
    have e : (if l + 1 ≤ x then nw_ls (fx x) w 3 else 0) = (if l < x then nw_ls (fx x) w 3 else 0) := nw_ifle
    rw [e]
    exact nw_desc19 hx hl hf hq gq gm rfl gb ht gt H0 H1 H2
end
end
section
/-- the pure search: (found, best, best value of x) -/
def nw_tk (t a : Nat) (s : Nat × Nat × Int32) : Nat × Nat × Int32 := (s.1 + 1, if s.2.1 ≤ t then s.2.1 else t, if s.2.1 ≤ t then s.2.2 else nI a)
def nw_ok (sh B t b : Nat) : Bool := decide (t < 50000) && (if sh = 1 ∧ b ≤ B then decide (t < b) else decide (t ≤ B))
def nw_V (x : Nat) (T : Nat → Nat) (Tm sh B : Nat) (E : Nat → Nat × Nat × Int32 → Nat × Nat × Int32) (l a k : Nat) (s : Nat × Nat × Int32) : Nat × Nat × Int32 :=
  if nw_ok sh B (if l < x then Tm else T (if l = x then k else a)) s.2.1 = true then E (if l = x then k else a) s else s
def nw_L (x : Nat) (T : Nat → Nat) (Tm sh B : Nat) (E : Nat → Nat × Nat × Int32 → Nat × Nat × Int32) (l a : Nat) : Nat → Nat → Nat × Nat × Int32 → Nat × Nat × Int32
  | 0 => fun _ s => s
  | j + 1 => fun k s => nw_L x T Tm sh B E l a j (k + 1) (nw_V x T Tm sh B E l a k s)
def nw_D (x : Nat) (T : Nat → Nat) (Tm sh B : Nat) (fx : Nat → Nat) : Nat → Nat → Nat × Nat × Int32 → Nat × Nat × Int32
  | 0 => fun a s => nw_tk (T a) a s
  | d + 1 => fun a s => nw_L x T Tm sh B (nw_D x T Tm sh B fx d) (5 - d) a (nw_hi (fx (5 - d)) + 1 - nw_lo (fx (5 - d))) (nw_lo (fx (5 - d))) s
def nw_C : Nat → Nat
  | 0 => 0
  | d + 1 => 3 * (1 + nw_C d) + 1
theorem nw_lim {t b : Nat} (ht : t < 2 ^ 30) (hb : b < 2 ^ 30) : nI t ≤ nI b - 1 ↔ t < b := by
  rw [show (1 : Int32) = nI 1 from rfl, Int32.le_iff_toInt_le, pk_sub_toInt hb (by omega), nI_toInt (by omega)]
  omega
theorem nw_ok_n {sh B t b : Nat} (h : ¬ (sh = 1 ∧ b ≤ B)) : nw_ok sh B t b = true ↔ t < 50000 ∧ t ≤ B := by
  unfold nw_ok
  rw [if_neg h]
  simp
theorem nw_ok_y {sh B t b : Nat} (h : sh = 1 ∧ b ≤ B) : nw_ok sh B t b = true ↔ t < 50000 ∧ t < b := by
  unfold nw_ok
  rw [if_pos h]
  simp
section
variable {rd fl : Int32} {a1 a2 a3 a4 a5 a6 a7 : Nat → Int32}
set_option maxHeartbeats 1000000 in
theorem nw_row {post : St2 → Prop} {fx w T : Nat → Nat} {x F Tm B sh l cE : Nat} {x2 : Int32} (E : Nat → Nat × Nat × Int32 → Nat × Nat × Int32) (hx : x < 6) (hl : l < 6) (hf : nw_fix fx a7) (ho : nw_one x w a5) (hw : ∀ a, a < 3 → nw_gd (w a)) (gF : nw_gd F)
    (hT : ∀ a, a < 3 → nw_mo F (w a) = T a) (gT : ∀ a, a < 3 → nw_gd (T a)) (hTm : nw_mo F (nw_ls (fx x) w 3) = Tm) (gTm : nw_gd Tm) (hB : B < 50000) (h2 : x2 = nI sh) (hsh : sh < 2)
    (hE5 : l = 5 → ∀ a s, E a s = nw_tk (T a) a s)
    (hE : l < 5 → ∀ (a n s f b : Nat) (c8 c9 c10 c11 : Nat → Int32), a < 3 → n + s = 3001 → s + cE ≤ 3000 → b ≤ 100000 → c10 (l + 1) = nI (nw_lo (fx (l + 1))) → c9 (l + 1) = nI (if l + 1 ≤ x then F else T a) → (x < l + 1 → c8 x = nI a) →
      (∀ (n' s' f' b' : Nat) (b8 b9 b10 b11 : Nat → Int32), n' + s' = 3001 → s' ≤ s + cE → (f', b', b11 x) = E a (f, b, c11 x) → b' ≤ 100000 → (∀ i, i < l + 1 → b8 i = c8 i) → (∀ i, i ≤ l + 1 → b9 i = c9 i) → (∀ i, i < l + 1 → b10 i = c10 i) →
        wX_search_35 post (nI B) x2 n' (nI l) (nI s') 0 rd fl (nI f') (nI b') a1 a2 a3 a4 a5 a6 a7 b8 b9 b10 b11) →
      wX_search_35 post (nI B) x2 n (nI (l + 1)) (nI s) 0 rd fl (nI f) (nI b) a1 a2 a3 a4 a5 a6 a7 c8 c9 c10 c11)
    (j : Nat) : ∀ (k n s f b a : Nat) (a8 a9 a10 a11 : Nat → Int32), a < 3 → j + k = nw_hi (fx l) + 1 → n + s = 3001 → s + (j * (1 + cE) + 1) ≤ 3000 → b ≤ 100000 → a10 l = nI k → a9 l = nI (if l ≤ x then F else T a) → (x < l → a8 x = nI a) →
      (∀ (n' s' f' b' : Nat) (b8 b9 b10 b11 : Nat → Int32), n' + s' = 3001 → s' ≤ s + (j * (1 + cE) + 1) → (f', b', b11 x) = nw_L x T Tm sh B E l a j k (f, b, a11 x) → b' ≤ 100000 → (∀ i, i < l → b8 i = a8 i) → (∀ i, i ≤ l → b9 i = a9 i) → (∀ i, i < l → b10 i = a10 i) →
        wX_search_35 post (nI B) x2 n' (nI l + (-1)) (nI s') 0 rd fl (nI f') (nI b') a1 a2 a3 a4 a5 a6 a7 b8 b9 b10 b11) →
      wX_search_35 post (nI B) x2 n (nI l) (nI s) 0 rd fl (nI f) (nI b) a1 a2 a3 a4 a5 a6 a7 a8 a9 a10 a11 := by
  have hhi : nw_hi (fx l) ≤ 2 := by
    have h := nw_fix_le hf hl
    unfold nw_hi
    split <;> omega
  induction j with
  | zero =>
    intro k n s f b a a8 a9 a10 a11 ha hk hn hs hb h10 h9 h8 H
    obtain ⟨n, rfl⟩ : ∃ m, n = m + 1 := ⟨n - 1, by omega⟩
    refine pk_le 3000 s (fun z => absurd z (by omega)) (fun _ => br_f (nI_pos (by omega)) ⟨pk_in l 6 hl, nw_last l hl rfl hf ?_⟩)
    rw [nI_clamp (show l < 2 ^ 31 by omega), h10]
    refine pk_le k (nw_hi (fx l)) (fun z => absurd z (by omega)) (fun _ => nm_e (nm_r (nI_1 s) ?_))
    exact H n (s + 1) f b a8 a9 a10 a11 (by omega) (by omega) rfl hb (fun _ _ => rfl) (fun _ _ => rfl) (fun _ _ => rfl)
  | succ j ih =>
    intro k n s f b a a8 a9 a10 a11 ha hk hn hs hb h10 h9 h8 H
    have hM : (j + 1) * (1 + cE) = j * (1 + cE) + (1 + cE) := Nat.succ_mul _ _
    obtain ⟨J, hJ⟩ : ∃ J, J = j * (1 + cE) := ⟨_, rfl⟩
    rw [← hJ] at hM ih
    rw [hM] at hs H
    have hk3 : k < 3 := by omega
    have ha' : (if l = x then k else a) < 3 := by
      split <;> omega
    have gA : nw_gd (if l ≤ x then F else T a) := by
      split
      · exact gF
      · exact gT a ha
    have gW : nw_gd (if l = x then w k else 0) := by
      split
      · exact hw k hk3
      · exact nw_gd_0
    have hqe : nw_mo (if l ≤ x then F else T a) (if l = x then w k else 0) = (if l < x then F else T (if l = x then k else a)) := by
      rcases Nat.lt_trichotomy l x with z | z | z
      · rw [if_pos (by omega), if_neg (by omega), if_pos z]
        exact nw_mo_z gF
      · rw [if_pos (by omega), if_pos z, if_neg (by omega), if_pos z]
        exact hT k hk3
      · rw [if_neg (by omega), if_neg (by omega), if_neg (by omega), if_neg (by omega)]
        exact nw_mo_z (gT a ha)
    have gq : nw_gd (if l < x then F else T (if l = x then k else a)) := by
      split
      · exact gF
      · exact gT _ ha'
    have et : (if l < x then Tm else T (if l = x then k else a)) = nw_mo (if l < x then F else T (if l = x then k else a)) (if l < x then nw_ls (fx x) w 3 else 0) := by
      by_cases z : l < x
      · rw [if_pos z, if_pos z, if_pos z]
        exact hTm.symm
      · rw [if_neg z, if_neg z, if_neg z]
        exact (nw_mo_z (gT _ ha')).symm
    have gt : nw_gd (if l < x then Tm else T (if l = x then k else a)) := by
      split
      · exact gTm
      · exact gT _ ha'
    have e8 : x < l + 1 → upd a8 l (nI k) x = nI (if l = x then k else a) := by
      intro z
      by_cases e : l = x
      · rw [e, if_pos rfl, pk_us]
      · rw [if_neg e, pk_un (by omega)]
        exact h8 (by omega)
    obtain ⟨n, rfl⟩ : ∃ m, n = m + 1 := ⟨n - 1, by omega⟩
    -- what stands behind descend
    have key : ∀ z : Int32, (nw_ok sh B (if l < x then Tm else T (if l = x then k else a)) b = true ↔ ((if l < x then Tm else T (if l = x then k else a)) < 50000 ∧ nI (if l < x then Tm else T (if l = x then k else a)) ≤ z)) →
        wX_search_146 post (wX_search_35 post (nI B) x2 n) (nI B) x2 (nI s) z (nI l) 0 rd fl (nI f) (nI b) a1 a2 a3 a4 a5 a6 a7 (upd a8 l (nI k)) (upd a9 (l + 1) (nI (if l < x then F else T (if l = x then k else a)))) (upd a10 l (nI (k + 1))) a11 := by
      intro z hz
      unfold wX_search_146
      refine nw_desc hx hl hf ho hw pk_us (nw_gd_lt gq) (by omega) et (nw_gd_lt gt) (fun h0 => ?_) (fun g1 g2 e5 c11 hc => ?_) (fun g1 g2 e5 => ?_)
      · dsimp only
        refine nm_r (nI_1 s) ?_
        refine ih (k + 1) n (s + 1) f b a _ _ _ a11 ha (by omega) (by omega) (by omega) hb pk_us (by rw [pk_un (by omega)]; exact h9) (fun z1 => by rw [pk_un (by omega)]; exact h8 z1) ?_
        intro n' s' f' b' b8 b9 b10 b11 q1 q2 q3 q4 q5 q6 q7
        refine H n' s' f' b' b8 b9 b10 b11 q1 (by omega) ?_ q4 (fun i hi => by rw [q5 i hi, pk_un (by omega)]) (fun i hi => by rw [q6 i hi, pk_un (by omega)]) (fun i hi => by rw [q7 i hi, pk_un (by omega)])
        rw [q3]
        show _ = nw_L x T Tm sh B E l a j (k + 1) (nw_V x T Tm sh B E l a k (f, b, a11 x))
        unfold nw_V
        dsimp only
        rw [if_neg (fun h1 => h0 (hz.mp h1))]
      · dsimp only
        refine nm_r (nI_1 s) ?_
        have hlx : ¬ l < x := by omega
        rw [if_neg hlx] at hc
        rw [if_neg hlx]
        have hb' : (if b ≤ T (if l = x then k else a) then b else T (if l = x then k else a)) ≤ 100000 := by
          by_cases zb : b ≤ T (if l = x then k else a)
          · rw [if_pos zb]
            exact hb
          · rw [if_neg zb]
            exact nw_gd_le (gT _ ha')
        refine ih (k + 1) n (s + 1) (f + 1) _ a _ _ _ c11 ha (by omega) (by omega) (by omega) hb' pk_us (by rw [pk_un (by omega)]; exact h9) (fun z1 => by rw [pk_un (by omega)]; exact h8 z1) ?_
        intro n' s' f' b' b8 b9 b10 b11 q1 q2 q3 q4 q5 q6 q7
        refine H n' s' f' b' b8 b9 b10 b11 q1 (by omega) ?_ q4 (fun i hi => by rw [q5 i hi, pk_un (by omega)]) (fun i hi => by rw [q6 i hi, pk_un (by omega)]) (fun i hi => by rw [q7 i hi, pk_un (by omega)])
        rw [q3, hc, e8 (by omega)]
        show _ = nw_L x T Tm sh B E l a j (k + 1) (nw_V x T Tm sh B E l a k (f, b, a11 x))
        unfold nw_V
        dsimp only
        rw [if_pos (hz.mpr ⟨g1, g2⟩), hE5 e5]
        rfl
      · dsimp only
        refine nm_r (nI_1 s) ?_
        refine hE e5 (if l = x then k else a) n (s + 1) f b _ _ _ a11 ha' (by omega) (by omega) hb pk_us ?_ e8 ?_
        · rw [pk_us, nw_ifle]
        intro n' s' f' b' b8 b9 b10 b11 q1 q2 q3 q4 q5 q6 q7
        refine ih (k + 1) n' s' f' b' a b8 b9 b10 b11 ha (by omega) q1 (by omega) q4 (by rw [q7 l (by omega), pk_un (by omega), pk_us]) (by rw [q6 l (by omega), pk_un (by omega)]; exact h9) (fun z1 => by rw [q5 x (by omega), pk_un (by omega)]; exact h8 z1) ?_
        intro n2 s2 f2 b2 d8 d9 d10 d11 r1 r2 r3 r4 r5 r6 r7
        refine H n2 s2 f2 b2 d8 d9 d10 d11 r1 (by omega) ?_ r4 (fun i hi => by rw [r5 i hi, q5 i (by omega), pk_un (by omega)]) (fun i hi => by rw [r6 i hi, q6 i (by omega), pk_un (by omega)]) (fun i hi => by rw [r7 i hi, q7 i (by omega), pk_un (by omega), pk_un (by omega)])
        rw [r3, q3]
        show _ = nw_L x T Tm sh B E l a j (k + 1) (nw_V x T Tm sh B E l a k (f, b, a11 x))
        unfold nw_V
        dsimp only
        rw [if_pos (hz.mpr ⟨g1, g2⟩)]
    refine pk_le 3000 s (fun z => absurd z (by omega)) (fun _ => br_f (nI_pos (by omega)) ⟨pk_in l 6 hl, nw_last l hl rfl hf ?_⟩)
    rw [nI_clamp (show l < 2 ^ 31 by omega), h10]
    refine pk_le k (nw_hi (fx l)) (fun _ => ?_) (fun z => absurd z (by omega))
    refine ⟨pk_in l 6 hl, pk_in l 6 hl, nm_e ⟨pk_in l 6 hl, pk_in l 6 hl, nm_r (congrArg (upd a10 l) (nI_1 k)) ⟨pk_in l 6 hl, nw_wt l k hl hk3 rfl pk_us ⟨pk_in l 7 (by omega), ?_⟩⟩⟩⟩
    refine nw_more (if l ≤ x then F else T a) (if l = x then w k else 0) h9 (ho l k hl hk3) (nw_gd_lt gA) (nw_gd_lt gW) ?_
    rw [hqe]
    refine ⟨pk_in (l + 1) 7 (by omega) (nI_1 l), ?_⟩
    rw [nI_1 l, nI_clamp (show l + 1 < 2 ^ 31 by omega)]
    refine nm_e ?_
    have key0 : ¬ (sh = 1 ∧ b ≤ B) → wX_search_145 post (wX_search_35 post (nI B) x2 n) (nI B) x2 (nI s) (nI l) 0 rd fl (nI f) (nI b) a1 a2 a3 a4 a5 a6 a7 (upd a8 l (nI k)) (upd a9 (l + 1) (nI (if l < x then F else T (if l = x then k else a)))) (upd a10 l (nI (k + 1))) a11 := by
      intro hc
      unfold wX_search_145
      refine key (nI B) ?_
      rw [nw_ok_n hc, nI_leI (nw_gd_lt gt) (by omega)]
    refine pk_eq sh 0 (fun e => key0 (by omega)) (fun e => ?_) h2 rfl
    refine pk_lt B b (fun e2 => key0 (by omega)) (fun e2 => key _ ?_)
    rw [nw_ok_y (by omega), nw_lim (Nat.lt_of_le_of_lt (nw_gd_le gt) (by omega)) (by omega)]
theorem nw_sub {post : St2 → Prop} {fx w T : Nat → Nat} {x F Tm B sh : Nat} {x2 : Int32} (hx : x < 6) (hf : nw_fix fx a7) (ho : nw_one x w a5) (hw : ∀ a, a < 3 → nw_gd (w a)) (gF : nw_gd F)
    (hT : ∀ a, a < 3 → nw_mo F (w a) = T a) (gT : ∀ a, a < 3 → nw_gd (T a)) (hTm : nw_mo F (nw_ls (fx x) w 3) = Tm) (gTm : nw_gd Tm) (hB : B < 50000) (h2 : x2 = nI sh) (hsh : sh < 2) (d : Nat) :
    ∀ l, l + d = 5 → ∀ (a n s f b : Nat) (c8 c9 c10 c11 : Nat → Int32), a < 3 → n + s = 3001 → s + nw_C (d + 1) ≤ 3000 → b ≤ 100000 → c10 l = nI (nw_lo (fx l)) → c9 l = nI (if l ≤ x then F else T a) → (x < l → c8 x = nI a) →
      (∀ (n' s' f' b' : Nat) (b8 b9 b10 b11 : Nat → Int32), n' + s' = 3001 → s' ≤ s + nw_C (d + 1) → (f', b', b11 x) = nw_D x T Tm sh B fx (d + 1) a (f, b, c11 x) → b' ≤ 100000 → (∀ i, i < l → b8 i = c8 i) → (∀ i, i ≤ l → b9 i = c9 i) → (∀ i, i < l → b10 i = c10 i) →
        wX_search_35 post (nI B) x2 n' (nI l + (-1)) (nI s') 0 rd fl (nI f') (nI b') a1 a2 a3 a4 a5 a6 a7 b8 b9 b10 b11) →
      wX_search_35 post (nI B) x2 n (nI l) (nI s) 0 rd fl (nI f) (nI b) a1 a2 a3 a4 a5 a6 a7 c8 c9 c10 c11 := by
  induction d with
  | zero =>
    intro l hl a n s f b c8 c9 c10 c11 ha hn hs hb h10 h9 h8 H
    obtain rfl : l = 5 := by omega
    have hlo : nw_lo (fx 5) ≤ nw_hi (fx 5) ∧ nw_hi (fx 5) < 3 := by
      have h := nw_fix_le hf (show 5 < 6 by omega)
      unfold nw_lo nw_hi
      split <;> omega
    have hc : nw_C (0 + 1) = 4 := rfl
    rw [hc] at hs H
    refine nw_row (cE := 0) (nw_D x T Tm sh B fx 0) hx (by omega) hf ho hw gF hT gT hTm gTm hB h2 hsh (fun _ _ _ => rfl) (fun z => absurd z (by omega)) (nw_hi (fx 5) + 1 - nw_lo (fx 5)) (nw_lo (fx 5)) n s f b a c8 c9 c10 c11 ha (by omega) hn (by omega) hb h10 h9 h8 ?_
    intro n' s' f' b' b8 b9 b10 b11 q1 q2 q3
    exact H n' s' f' b' b8 b9 b10 b11 q1 (by omega) q3
  | succ d ih =>
    intro l hl a n s f b c8 c9 c10 c11 ha hn hs hb h10 h9 h8 H
    have hlo : nw_lo (fx l) ≤ nw_hi (fx l) ∧ nw_hi (fx l) < 3 := by
      have h := nw_fix_le hf (show l < 6 by omega)
      unfold nw_lo nw_hi
      split <;> omega
    have hm : (nw_hi (fx l) + 1 - nw_lo (fx l)) * (1 + nw_C (d + 1)) + 1 ≤ nw_C (d + 1 + 1) := by
      have h3 : (nw_hi (fx l) + 1 - nw_lo (fx l)) * (1 + nw_C (d + 1)) ≤ 3 * (1 + nw_C (d + 1)) := Nat.mul_le_mul_right _ (by omega)
      show _ ≤ 3 * (1 + nw_C (d + 1)) + 1
      omega
    refine nw_row (cE := nw_C (d + 1)) (nw_D x T Tm sh B fx (d + 1)) hx (by omega) hf ho hw gF hT gT hTm gTm hB h2 hsh (fun z => absurd z (by omega)) (fun _ => ?_) (nw_hi (fx l) + 1 - nw_lo (fx l)) (nw_lo (fx l)) n s f b a c8 c9 c10 c11 ha (by omega) hn (by omega) hb h10 h9 h8 ?_
    · intro a' n0 s0 f0 b0 g8 g9 g10 g11 ga gn gs gb g1 g2 g3 G
      refine ih (l + 1) (by omega) a' n0 s0 f0 b0 g8 g9 g10 g11 ga gn gs gb g1 g2 g3 ?_
      intro n' s' f' b' b8 b9 b10 b11 q1 q2 q3 q4 q5 q6 q7
      rw [pk_m1]
      exact G n' s' f' b' b8 b9 b10 b11 q1 q2 q3 q4 q5 q6 q7
    · intro n' s' f' b' b8 b9 b10 b11 q1 q2 q3
      refine H n' s' f' b' b8 b9 b10 b11 q1 (by omega) ?_
      rw [q3]
      show _ = nw_L x T Tm sh B (nw_D x T Tm sh B fx (d + 1)) (5 - (d + 1)) a (nw_hi (fx (5 - (d + 1))) + 1 - nw_lo (fx (5 - (d + 1)))) (nw_lo (fx (5 - (d + 1)))) (f, b, c11 x)
      rw [show 5 - (d + 1) = l by omega]
end
end
section
def nw_rs (L p : Nat) : Nat := if L < 50000 then nw_le p L else 0
/-- the costs as given: only x has any -/
def nw_cst (x : Nat) (c : Nat → Nat) (a1 : Nat → Int32) : Prop := ∀ v a, v < 6 → a < 3 → a1 (v * 3 + a) = nI (if v = x then c a else 0)
def nw_F (c : Nat → Nat) : Nat := nw_ls 3 (fun a => nw_cm (c a)) 3
def nw_w (c : Nat → Nat) (a : Nat) : Nat := nw_rs (nw_F c) (nw_cm (c a))
def nw_K (x : Nat) (c : Nat → Nat) (rd fl : Int32) (a1 a5 : Nat → Int32) : Prop := nw_cst x c a1 ∧ (rd = 0 ∨ (rd = 1 ∧ fl = nI (nw_F c) ∧ nw_one x (nw_w c) a5))
theorem nw_cm_gd {c : Nat} (h : c ≤ 20) : nw_gd (nw_cm c) := by
  unfold nw_gd nw_cm
  split <;> omega
theorem nw_F_gd {c : Nat → Nat} (hc : ∀ a, a < 3 → c a ≤ 20) : nw_gd (nw_F c) := nw_ls_gd _ _ _ (fun a ha => nw_cm_gd (hc a ha))
theorem nw_ls_mem {f : Nat} {u : Nat → Nat} {k a : Nat} (ha : a < k) (hf : f = 3 ∨ f = a) : nw_ls f u k ≤ u a := by
  induction k with
  | zero => omega
  | succ k ih =>
    show (if f = 3 ∨ f = k then min (nw_ls f u k) (u k) else nw_ls f u k) ≤ u a
    by_cases e : a = k
    · subst e
      rw [if_pos hf]
      omega
    · have := ih (by omega)
      split <;> omega
theorem nw_F_le {c : Nat → Nat} {a : Nat} (ha : a < 3) : nw_F c ≤ nw_cm (c a) := nw_ls_mem (u := fun a => nw_cm (c a)) ha (Or.inl rfl)
theorem nw_w_gd {c : Nat → Nat} {a : Nat} (hc : c a ≤ 20) : nw_gd (nw_w c a) := by
  have h := nw_cm_gd hc
  unfold nw_w nw_rs nw_le
  unfold nw_gd at *
  split <;> (try split) <;> omega
theorem nw_T {c : Nat → Nat} (hc : ∀ a, a < 3 → c a ≤ 20) {a : Nat} (ha : a < 3) : nw_mo (nw_F c) (nw_w c a) = nw_cm (c a) := by
  have h1 := nw_cm_gd (hc a ha)
  have h2 := nw_F_gd hc
  have h3 : nw_F c ≤ nw_cm (c a) := nw_F_le ha
  unfold nw_w nw_rs nw_le nw_mo
  generalize nw_F c = F at *
  generalize nw_cm (c a) = u at *
  unfold nw_gd at *
  by_cases z : F < 50000
  · rw [if_neg (show ¬ 50000 ≤ F by omega), if_pos z]
    by_cases z2 : u < 50000
    · rw [if_pos z2, if_pos (by omega)]
      omega
    · rw [if_neg z2, if_neg (by omega)]
      omega
  · rw [if_pos (by omega)]
    omega
theorem nw_mo_min {F p q : Nat} (hp : nw_gd p) (hq : nw_gd q) : nw_mo F (min p q) = min (nw_mo F p) (nw_mo F q) := by
  unfold nw_mo
  unfold nw_gd at *
  by_cases z : 50000 ≤ F
  · rw [if_pos z, if_pos z, if_pos z]
    omega
  · rw [if_neg z, if_neg z, if_neg z]
    split <;> split <;> split <;> omega
theorem nw_mo_ls {F f : Nat} {u t : Nat → Nat} (k : Nat) (hu : ∀ a, a < k → nw_gd (u a)) (ht : ∀ a, a < k → nw_mo F (u a) = t a) : nw_mo F (nw_ls f u k) = nw_ls f t k := by
  induction k with
  | zero =>
    show nw_mo F 100000 = 100000
    unfold nw_mo
    split
    · rfl
    · rfl
  | succ k ih =>
    have h1 := ih (fun a ha => hu a (by omega)) (fun a ha => ht a (by omega))
    show nw_mo F (if f = 3 ∨ f = k then min (nw_ls f u k) (u k) else nw_ls f u k) = (if f = 3 ∨ f = k then min (nw_ls f t k) (t k) else nw_ls f t k)
    split
    · rw [nw_mo_min (nw_ls_gd _ _ _ (fun a ha => hu a (by omega))) (hu k (by omega)), h1, ht k (by omega)]
    · exact h1
section
variable {rd fl fo be : Int32} {a1 a2 a3 a4 a5 a6 a7 a8 a9 a10 a11 : Nat → Int32}
theorem nw_mtf55 {post : St2 → Prop} (v L : Nat) (u : Nat → Nat) (hv : v < 6) (hL : L < 2 ^ 31) (hu : ∀ a, a < 3 → L ≤ u a ∧ u a < 2 ^ 31) (h5 : ∀ a, a < 3 → a5 (v * 3 + a) = nI (u a))
    (H : ∀ c5 : Nat → Int32, (∀ a, a < 3 → c5 (v * 3 + a) = nI (nw_rs L (u a))) → (∀ j, (j < v * 3 ∨ v * 3 + 3 ≤ j) → c5 j = a5 j) → post (0, rd, fl, fo, be, a1, a2, a3, a4, c5, a6, a7, a8, a9, a10, a11)) :
    ∃ n, wX_moveToFloor_55 post (nI v) (nI L) 0 rd fl fo be n 0 a1 a2 a3 a4 a5 a6 a7 a8 a9 a10 a11 := by
  refine pk_loop (fun n i s => wX_moveToFloor_55 post (nI v) (nI L) 0 rd fl fo be n (nI i) a1 a2 a3 a4 s a6 a7 a8 a9 a10 a11)
    (fun i s => (∀ a, a < i → s (v * 3 + a) = nI (nw_rs L (u a))) ∧ (∀ a, i ≤ a → a < 3 → s (v * 3 + a) = nI (u a)) ∧ (∀ j, (j < v * 3 ∨ v * 3 + 3 ≤ j) → s j = a5 j))
    3 0 a5 (by omega) ⟨fun a ha => absurd ha (by omega), fun a _ ha => h5 a ha, fun _ _ => rfl⟩ ?_ ?_
  · intro n s hs
    exact pk_le 3 3 (fun _ => H s hs.1 hs.2.2) (fun z => absurd z (by omega))
  · intro n i s hi hs hn
    obtain ⟨s1, s2, s3⟩ := hs
    have hstep : ∀ y : Int32, y = nI (nw_rs L (u i)) → wX_moveToFloor_55 post (nI v) (nI L) 0 rd fl fo be n (nI (i + 1)) a1 a2 a3 a4 (upd s (v * 3 + i) y) a6 a7 a8 a9 a10 a11 := by
      intro y hy
      refine hn _ ⟨fun a ha => ?_, fun a h1 h2 => ?_, fun j hj => ?_⟩
      · by_cases e : a = i
        · rw [e, pk_us, hy]
        · rw [pk_un (by omega)]
          exact s1 a (by omega)
      · rw [pk_un (by omega)]
        exact s2 a (by omega) h2
      · rw [pk_un (by omega)]
        exact s3 j hj
    refine pk_le 3 i (fun z => absurd z (by omega)) (fun _ => ?_)
    rw [nw_i3, nI_clamp (show v * 3 + i < 2 ^ 31 by omega)]
    refine pk_lt L 50000 (fun z => ⟨pk_in (v * 3 + i) 18 (by omega), nw_less (u i) L (s2 i (Nat.le_refl _) hi) rfl (hu i hi).2 (hu i hi).1 ⟨pk_in (v * 3 + i) 18 (by omega), nm_e (nm_r (nI_1 i) (hstep _ ?_))⟩⟩) (fun z => ⟨pk_in (v * 3 + i) 18 (by omega), nm_e (nm_r (nI_1 i) (hstep _ ?_))⟩)
    · unfold nw_rs
      rw [if_pos z]
    · unfold nw_rs
      rw [if_neg (by omega)]
      rfl
theorem nw_mtf {post : St2 → Prop} {xx : Int32} (v F0 : Nat) (u : Nat → Nat) (hv : v < 6) (hxx : xx = nI v) (hfl : fl = nI F0) (gF : F0 < 2 ^ 31) (hu : ∀ a, a < 3 → u a < 2 ^ 31) (h5 : ∀ a, a < 3 → a5 (v * 3 + a) = nI (u a))
    (H : ∀ c5 : Nat → Int32, (∀ a, a < 3 → c5 (v * 3 + a) = nI (nw_rs (nw_ls 3 u 3) (u a))) → (∀ j, (j < v * 3 ∨ v * 3 + 3 ≤ j) → c5 j = a5 j) → post (0, rd, nI (nw_mo F0 (nw_ls 3 u 3)), fo, be, a1, a2, a3, a4, c5, a6, a7, a8, a9, a10, a11)) :
    wpX_moveToFloor post (0, rd, fl, fo, be, a1, a2, a3, a4, a5, a6, a7, a8, a9, a10, a11) xx := by
  subst hxx
  unfold wpX_moveToFloor
  dsimp only
  have hls : ∀ k, nw_ls 3 u k < 2 ^ 31 := fun k => Nat.lt_of_le_of_lt (nw_ls_le _ _ _) (by omega)
  refine pk_loop (σ := Unit) (fun n i _ => wX_moveToFloor_5 post (nI v) 0 rd fl fo be a1 a2 a3 a4 a5 a6 a7 a8 a9 a10 a11 n (nI (nw_ls 3 u i)) (nI i)) (fun _ _ => True) 3 0 () (by omega) trivial ?_ ?_
  · intro n _ _
    exact pk_le 3 3 (fun _ => nw_more F0 (nw_ls 3 u 3) hfl rfl gF (hls 3) (nw_mtf55 v (nw_ls 3 u 3) u hv (hls 3) (fun a ha => ⟨nw_ls_mem ha (Or.inl rfl), hu a ha⟩) h5 H)) (fun z => absurd z (by omega))
  · intro n i _ hi _ hn
    have hN : wX_moveToFloor_5 post (nI v) 0 rd fl fo be a1 a2 a3 a4 a5 a6 a7 a8 a9 a10 a11 n (nI (min (nw_ls 3 u i) (u i))) (nI (i + 1)) := hn () trivial
    refine pk_le 3 i (fun z => absurd z (by omega)) (fun _ => ?_)
    rw [nw_i3, nI_clamp (show v * 3 + i < 2 ^ 31 by omega), h5 i hi]
    refine ⟨pk_in (v * 3 + i) 18 (by omega), pk_le (nw_ls 3 u i) (u i) (fun z => nm_r (nI_1 i) ?_) (fun z => ⟨pk_in (v * 3 + i) 18 (by omega), nm_e (nm_r (nI_1 i) ?_)⟩) rfl rfl (hls i) (hu i hi)⟩
    · rw [Nat.min_eq_left z] at hN
      exact hN
    · rw [Nat.min_eq_right (by omega)] at hN
      exact hN
theorem nw_prep126 {post : St2 → Prop} {x : Nat} {c : Nat → Nat} (hx : x < 6) (hc : ∀ a, a < 3 → c a ≤ 20) (h5 : nw_one x (fun a => nw_cm (c a)) a5)
    (H : ∀ c5 : Nat → Int32, nw_one x (nw_w c) c5 → post (0, 1, nI (nw_F c), fo, be, a1, a2, a3, a4, c5, a6, a7, a8, a9, a10, a11)) : ∃ n, wX_prepare_126 post n 0 0 1 0 fo be a1 a2 a3 a4 a5 a6 a7 a8 a9 a10 a11 := by
  have gF := nw_F_gd hc
  refine pk_loop (σ := Int32 × (Nat → Int32)) (fun n i s => wX_prepare_126 post n (nI i) 0 1 (s.1) fo be a1 a2 a3 a4 (s.2) a6 a7 a8 a9 a10 a11)
    (fun i s => s.1 = nI (if x < i then nw_F c else 0) ∧ ∀ v a, v < 6 → a < 3 → s.2 (v * 3 + a) = nI (if v = x then (if x < i then nw_w c a else nw_cm (c a)) else 0))
    6 0 (0, a5) (by omega) ⟨by rw [if_neg (by omega)]; rfl, fun v a hv ha => by rw [if_neg (show ¬ x < 0 by omega)]; exact h5 v a hv ha⟩ ?_ ?_
  · intro n s hs
    obtain ⟨f, g⟩ := s
    obtain ⟨s1, s2⟩ := hs
    dsimp only at s1 s2
    subst s1
    refine pk_le 6 6 (fun _ => ?_) (fun z => absurd z (by omega))
    dsimp only
    rw [if_pos hx]
    refine H g (fun v a hv ha => ?_)
    rw [s2 v a hv ha, if_pos hx]
  · intro n i s hi hs hn
    obtain ⟨f, g⟩ := s
    obtain ⟨s1, s2⟩ := hs
    dsimp only at s1 s2
    refine pk_le 6 i (fun z => absurd z (by omega)) (fun _ => ?_)
    dsimp only
    refine nw_mtf i (if x < i then nw_F c else 0) (fun a => if i = x then nw_cm (c a) else 0) hi rfl s1 ?_ ?_ ?_ ?_
    · have := nw_gd_lt gF
      split <;> omega
    · intro a ha
      have := nw_gd_lt (nw_cm_gd (hc a ha))
      split <;> omega
    · intro a ha
      show g (i * 3 + a) = nI (if i = x then nw_cm (c a) else 0)
      rw [s2 i a hi ha]
      by_cases e : i = x
      · rw [if_pos e, if_neg (show ¬ x < i by omega), if_pos e]
      · rw [if_neg e, if_neg e]
    · intro c5 k1 k2
      dsimp only
      refine nm_r (nI_1 i) ?_
      refine hn (_, c5) ⟨?_, ?_⟩
      · dsimp only
        refine congrArg nI ?_
        by_cases e : i = x
        · subst e
          have e2 : (fun a => if i = i then nw_cm (c a) else 0) = fun a => nw_cm (c a) := by
            funext a
            exact if_pos rfl
          rw [e2, if_neg (by omega), if_pos (by omega)]
          exact nw_mo_0 gF
        · have e2 : nw_ls 3 (fun a => if i = x then nw_cm (c a) else 0) 3 = 0 := nw_ls_z 3 _ (by omega) (fun a _ => if_neg e)
          have hq : x < i ↔ x < i + 1 := by omega
          rw [e2]
          simp only [← hq]
          refine nw_mo_z ?_
          split
          · exact gF
          · exact nw_gd_0
      · intro v a hv ha
        dsimp only
        by_cases e : v = i
        · subst e
          rw [k1 a ha]
          refine congrArg nI ?_
          by_cases e1 : v = x
          · subst e1
            have e2 : (fun a => if v = v then nw_cm (c a) else 0) = fun a => nw_cm (c a) := by
              funext a
              exact if_pos rfl
            rw [e2, if_pos rfl, if_pos rfl, if_pos (by omega)]
            rfl
          · have e2 : nw_ls 3 (fun a => if v = x then nw_cm (c a) else 0) 3 = 0 := nw_ls_z 3 _ (by omega) (fun a _ => if_neg e1)
            rw [e2, if_neg e1, if_neg e1]
            rfl
        · rw [k2 (v * 3 + a) (by omega), s2 v a hv ha]
          refine congrArg nI ?_
          by_cases e1 : v = x
          · have hq : x < i ↔ x < i + 1 := by omega
            rw [if_pos e1, if_pos e1]
            simp only [← hq]
          · rw [if_neg e1, if_neg e1]
theorem nw_prep {post : St2 → Prop} {x : Nat} {c : Nat → Nat} (hx : x < 6) (hc : ∀ a, a < 3 → c a ≤ 20) (hK : nw_K x c rd fl a1 a5)
    (H : ∀ c5 : Nat → Int32, nw_one x (nw_w c) c5 → post (0, 1, nI (nw_F c), fo, be, a1, a2, a3, a4, c5, a6, a7, a8, a9, a10, a11)) : wpX_prepare post (0, rd, fl, fo, be, a1, a2, a3, a4, a5, a6, a7, a8, a9, a10, a11) := by
  obtain ⟨h1, h2⟩ := hK
  unfold wpX_prepare
  dsimp only
  rcases h2 with h2 | ⟨h2, h3, h4⟩
  · refine br_t h2 ?_
    have hcc : ∀ j, j < 18 → (if j / 3 = x then c (j % 3) else 0) ≤ 20 := by
      intro j hj
      have := hc (j % 3) (by omega)
      split <;> omega
    refine pk_loop (fun n i s => wX_prepare_20 post 0 1 0 fo be n (nI i) a1 a2 a3 a4 s a6 a7 a8 a9 a10 a11) (fun i s => ∀ j, j < i → s j = nI (nw_cm (if j / 3 = x then c (j % 3) else 0))) 18 0 a5 (by omega) (fun j hj => absurd hj (by omega)) ?_ ?_
    · intro n s hs
      refine pk_le 18 18 (fun _ => ?_) (fun z => absurd z (by omega))
      refine ⟨1, br_t (by decide) ⟨1, br_t (by decide) ?_⟩⟩
      refine nw_prep126 hx hc ?_ H
      intro v a hv ha
      rw [hs (v * 3 + a) (by omega), show (v * 3 + a) / 3 = v by omega, show (v * 3 + a) % 3 = a by omega]
      refine congrArg nI ?_
      split <;> rfl
    · intro n i s hi hs hn
      refine pk_le 18 i (fun z => absurd z (by omega)) (fun _ => ?_)
      rw [nI_clamp (show i < 2 ^ 31 by omega)]
      have e : a1 i = nI (if i / 3 = x then c (i % 3) else 0) := by
        have := h1 (i / 3) (i % 3) (by omega) (by omega)
        rw [show i / 3 * 3 + i % 3 = i by omega] at this
        exact this
      refine ⟨pk_in i 18 hi, nw_asm _ e (by have := hcc i hi; omega) ⟨pk_in i 18 hi, nm_e (nm_r (nI_1 i) (hn _ ?_))⟩⟩
      intro j hj
      by_cases e2 : j = i
      · rw [e2, pk_us]
      · rw [pk_un e2]
        exact hs j (by omega)
  · subst h2 h3
    exact br_f (by decide) (H a5 h4)
theorem nw_search {post : St2 → Prop} {x B sh : Nat} {c fx : Nat → Nat} {p0 p1 : Int32} (hx : x < 6) (hc : ∀ a, a < 3 → c a ≤ 20) (hK : nw_K x c rd fl a1 a5) (hf : nw_fix fx a7) (hp : p0 = nI B) (hB : B < 50000) (h2 : p1 = nI sh) (hsh : sh < 2)
    (H : ∀ (f b : Nat) (c5 c8 c9 c10 c11 : Nat → Int32), nw_one x (nw_w c) c5 → (f, b, c11 x) = nw_D x (fun a => nw_cm (c a)) (nw_ls (fx x) (fun a => nw_cm (c a)) 3) sh B fx 6 0 (0, 100000, a11 x) → b ≤ 100000 →
      post (0, 1, nI (nw_F c), nI f, nI b, a1, a2, a3, a4, c5, a6, a7, c8, c9, c10, c11)) : wpX_search post (0, rd, fl, fo, be, a1, a2, a3, a4, a5, a6, a7, a8, a9, a10, a11) p0 p1 := by
  subst hp
  unfold wpX_search
  dsimp only
  refine nw_prep hx hc hK (fun c5 h5 => ?_)
  dsimp only
  refine nm_e (nw_open 0 (by omega) rfl hf ?_)
  dsimp only
  refine ⟨3001, ?_⟩
  refine nw_sub (F := nw_F c) (T := fun a => nw_cm (c a)) hx hf h5 (fun a ha => nw_w_gd (hc a ha)) (nw_F_gd hc) (fun a ha => nw_T hc ha) (fun a ha => nw_cm_gd (hc a ha)) (nw_mo_ls 3 (fun a ha => nw_w_gd (hc a ha)) (fun a ha => nw_T hc ha)) (nw_ls_gd _ _ _ (fun a ha => nw_cm_gd (hc a ha))) hB h2 hsh 5 0 rfl 0 3001 0 0 100000 _ _ _ a11 (by omega) (by omega) (by decide) (by omega) pk_us ?_ (fun z => absurd z (by omega)) ?_
  · rw [pk_us, if_pos (by omega)]
  · intro n' s' f' b' b8 b9 b10 b11 q1 q2 q3 q4 q5 q6 q7
    have hC : nw_C (5 + 1) = 1456 := by decide
    rw [hC] at q2
    obtain ⟨n', rfl⟩ : ∃ m, n' = m + 1 := ⟨n' - 1, by omega⟩
    exact pk_le 3000 s' (fun z => absurd z (by omega)) (fun _ => br_t (by decide) (H f' b' c5 b8 b9 b10 b11 h5 q3 q4))
end
end
section
theorem nw_ok_1 {t b : Nat} : nw_ok 1 49999 t b = true ↔ t < 50000 ∧ t < b := by
  by_cases h : b ≤ 49999
  · exact nw_ok_y ⟨rfl, h⟩
  · rw [nw_ok_n (fun z => h z.2)]
    omega
theorem nw_ok_0 {B t b : Nat} : nw_ok 0 B t b = true ↔ t < 50000 ∧ t ≤ B := nw_ok_n (fun z => absurd z.1 (by omega))
theorem nw_stay {x : Nat} {T : Nat → Nat} {Tm sh B : Nat} {E : Nat → Nat × Nat × Int32 → Nat × Nat × Int32} {l a : Nat} {s : Nat × Nat × Int32} (h : ∀ k, nw_V x T Tm sh B E l a k s = s) (j : Nat) : ∀ k, nw_L x T Tm sh B E l a j k s = s := by
  induction j with
  | zero => exact fun _ => rfl
  | succ j ih =>
    intro k
    show nw_L x T Tm sh B E l a j (k + 1) (nw_V x T Tm sh B E l a k s) = s
    rw [h k]
    exact ih (k + 1)
theorem nw_lohi {f : Nat} (h : f ≤ 3) : nw_lo f ≤ nw_hi f ∧ nw_hi f < 3 := by
  unfold nw_lo nw_hi
  split <;> omega
/-- one value improves, the others then can't -/
theorem nw_once {x : Nat} {T : Nat → Nat} {Tm sh B : Nat} {E : Nat → Nat × Nat × Int32 → Nat × Nat × Int32} {l a j k : Nat} {s : Nat × Nat × Int32} {r : Nat × Int32} (hj : 0 < j) (h1 : (nw_V x T Tm sh B E l a k s).2 = r) (h2 : ∀ s' k', s'.2 = r → nw_V x T Tm sh B E l a k' s' = s') :
    (nw_L x T Tm sh B E l a j k s).2 = r := by
  obtain ⟨j, rfl⟩ : ∃ m, j = m + 1 := ⟨j - 1, by omega⟩
  show (nw_L x T Tm sh B E l a j (k + 1) (nw_V x T Tm sh B E l a k s)).2 = r
  rw [nw_stay (fun k' => h2 _ k' h1)]
  exact h1
/-- shrinking, below x -/
theorem nw_sa {x : Nat} {T fx : Nat → Nat} {Tm a : Nat} (hfx : ∀ v, v < 6 → fx v ≤ 3) (ht : T a < 50000) (d : Nat) : x + d < 6 → ∀ (f b : Nat) (v : Int32), T a < b → (nw_D x T Tm 1 49999 fx d a (f, b, v)).2 = (T a, nI a) := by
  induction d with
  | zero =>
    intro _ f b v hb
    show ((if b ≤ T a then b else T a), (if b ≤ T a then v else nI a)) = (T a, nI a)
    rw [if_neg (by omega), if_neg (by omega)]
  | succ d ih =>
    intro hd f b v hb
    have hlo := nw_lohi (hfx (5 - d) (by omega))
    have hV : ∀ k s, nw_V x T Tm 1 49999 (nw_D x T Tm 1 49999 fx d) (5 - d) a k s = if nw_ok 1 49999 (T a) s.2.1 = true then nw_D x T Tm 1 49999 fx d a s else s := by
      intro k s
      unfold nw_V
      rw [if_neg (show ¬ 5 - d < x by omega), if_neg (show ¬ 5 - d = x by omega)]
    refine nw_once (by omega) ?_ ?_
    · rw [hV, if_pos (nw_ok_1.mpr ⟨ht, hb⟩)]
      exact ih (by omega) f b v hb
    · intro s' k' hs
      rw [hV, if_neg]
      rw [hs, nw_ok_1]
      dsimp only
      omega
/-- shrinking, at x: one value -/
theorem nw_sv {x : Nat} {T fx : Nat → Nat} {Tm a k : Nat} (hx : x < 6) (hfx : ∀ v, v < 6 → fx v ≤ 3) (s : Nat × Nat × Int32) :
    (nw_V x T Tm 1 49999 (nw_D x T Tm 1 49999 fx (5 - x)) x a k s).2 = if T k < 50000 ∧ T k < s.2.1 then (T k, nI k) else s.2 := by
  unfold nw_V
  rw [if_neg (show ¬ x < x by omega), if_pos rfl]
  by_cases h : T k < 50000 ∧ T k < s.2.1
  · rw [if_pos h, if_pos (nw_ok_1.mpr h)]
    exact nw_sa hfx h.1 (5 - x) (by omega) s.1 s.2.1 s.2.2 h.2
  · rw [if_neg h, if_neg (fun z => h (nw_ok_1.mp z))]
/-- shrinking, from x up: the least usable cost, its first place -/
theorem nw_sb {x : Nat} {T fx : Nat → Nat} {Tm q : Nat} (hx : x < 6) (hfx : ∀ v, v < 6 → fx v ≤ 3) (hq : q < 3) (hop : fx x = 3 ∨ fx x = q) (hTq : T q = Tm) (hfst : ∀ j, j < q → (fx x = 3 ∨ fx x = j) → Tm < T j) (hmin : ∀ j, j < 3 → (fx x = 3 ∨ fx x = j) → Tm ≤ T j) (e : Nat) :
    x + 6 ≤ 6 + x + e → ∀ d, x + d = 6 + e → d ≤ 6 → ∀ (a f b : Nat) (v : Int32), (nw_D x T Tm 1 49999 fx d a (f, b, v)).2 = if Tm < 50000 ∧ Tm < b then (Tm, nI q) else (b, v) := by
  intro _
  induction e with
  | zero =>
    intro d hd hd6 a f b v
    obtain ⟨d, rfl⟩ : ∃ m, d = m + 1 := ⟨d - 1, by omega⟩
    show (nw_L x T Tm 1 49999 (nw_D x T Tm 1 49999 fx d) (5 - d) a (nw_hi (fx (5 - d)) + 1 - nw_lo (fx (5 - d))) (nw_lo (fx (5 - d))) (f, b, v)).2 = _
    obtain rfl : d = 5 - x := by omega
    rw [show 5 - (5 - x) = x by omega]
    by_cases h3 : fx x = 3
    · have e1 : nw_hi (fx x) + 1 - nw_lo (fx x) = 3 := by
        unfold nw_hi nw_lo
        rw [if_pos h3, if_pos h3]
      have e2 : nw_lo (fx x) = 0 := by
        unfold nw_lo
        rw [if_pos h3]
      rw [e1, e2]
      show (nw_V x T Tm 1 49999 (nw_D x T Tm 1 49999 fx (5 - x)) x a 2 (nw_V x T Tm 1 49999 (nw_D x T Tm 1 49999 fx (5 - x)) x a 1 (nw_V x T Tm 1 49999 (nw_D x T Tm 1 49999 fx (5 - x)) x a 0 (f, b, v)))).2 = _
      have m0 := hmin 0 (by omega) (Or.inl h3)
      have m1 := hmin 1 (by omega) (Or.inl h3)
      have m2 := hmin 2 (by omega) (Or.inl h3)
      have f0 : 0 < q → Tm < T 0 := fun z => hfst 0 z (Or.inl h3)
      have f1 : 1 < q → Tm < T 1 := fun z => hfst 1 z (Or.inl h3)
      rw [nw_sv hx hfx, nw_sv hx hfx, nw_sv hx hfx]
      have hq3 : q = 0 ∨ q = 1 ∨ q = 2 := by omega
      rcases hq3 with rfl | rfl | rfl
      · subst hTq
        by_cases c0 : T 0 < 50000 ∧ T 0 < b
        · rw [if_pos c0]
          dsimp only
          rw [if_neg (show ¬ (T 1 < 50000 ∧ T 1 < T 0) by omega)]
          dsimp only
          rw [if_neg (show ¬ (T 2 < 50000 ∧ T 2 < T 0) by omega)]
        · rw [if_neg c0]
          dsimp only
          rw [if_neg (show ¬ (T 1 < 50000 ∧ T 1 < b) by omega)]
          dsimp only
          rw [if_neg (show ¬ (T 2 < 50000 ∧ T 2 < b) by omega)]
      · subst hTq
        by_cases c0 : T 0 < 50000 ∧ T 0 < b
        · rw [if_pos c0]
          dsimp only
          rw [if_pos (show T 1 < 50000 ∧ T 1 < T 0 by omega)]
          dsimp only
          rw [if_neg (by omega), if_pos (by omega)]
        · rw [if_neg c0]
          dsimp only
          by_cases c1 : T 1 < 50000 ∧ T 1 < b
          · rw [if_pos c1]
            dsimp only
            rw [if_neg (by omega)]
          · rw [if_neg c1]
            dsimp only
            rw [if_neg (by omega)]
      · subst hTq
        have g0 := f0 (by omega)
        have g1 := f1 (by omega)
        have hb1 : ∀ r : Nat × Int32, (T 2 < 50000 ∧ T 2 < b ↔ T 2 < 50000 ∧ T 2 < r.1) → (¬ (T 2 < 50000 ∧ T 2 < b) → r = (b, v)) → (if T 2 < 50000 ∧ T 2 < r.1 then (T 2, nI 2) else r) = if T 2 < 50000 ∧ T 2 < b then (T 2, nI 2) else (b, v) := by
          intro r k1 k2
          by_cases c2 : T 2 < 50000 ∧ T 2 < b
          · rw [if_pos c2, if_pos (k1.mp c2)]
          · rw [if_neg c2, if_neg (fun z => c2 (k1.mpr z)), k2 c2]
        refine hb1 _ ?_ ?_
        · by_cases c0 : T 0 < 50000 ∧ T 0 < b
          · rw [if_pos c0]
            dsimp only
            by_cases c1 : T 1 < 50000 ∧ T 1 < T 0
            · rw [if_pos c1]
              dsimp only
              omega
            · rw [if_neg c1]
              dsimp only
              omega
          · rw [if_neg c0]
            dsimp only
            by_cases c1 : T 1 < 50000 ∧ T 1 < b
            · rw [if_pos c1]
              dsimp only
              omega
            · rw [if_neg c1]
        · intro c2
          rw [if_neg (show ¬ (T 0 < 50000 ∧ T 0 < b) by omega)]
          dsimp only
          rw [if_neg (show ¬ (T 1 < 50000 ∧ T 1 < b) by omega)]
    · obtain h3 : fx x = q := by omega
      have e1 : nw_hi (fx x) + 1 - nw_lo (fx x) = 1 := by
        unfold nw_hi nw_lo
        rw [if_neg (by omega), if_neg (by omega)]
        omega
      have e2 : nw_lo (fx x) = q := by
        unfold nw_lo
        rw [if_neg (by omega)]
        exact h3
      rw [e1, e2]
      show (nw_V x T Tm 1 49999 (nw_D x T Tm 1 49999 fx (5 - x)) x a q (f, b, v)).2 = _
      rw [nw_sv hx hfx, hTq]
  | succ e ih =>
    intro d hd hd6 a f b v
    obtain ⟨d, rfl⟩ : ∃ m, d = m + 1 := ⟨d - 1, by omega⟩
    have IH := ih (by omega) d (by omega) (by omega)
    have hlo := nw_lohi (hfx (5 - d) (by omega))
    have hV : ∀ k s, nw_V x T Tm 1 49999 (nw_D x T Tm 1 49999 fx d) (5 - d) a k s = if nw_ok 1 49999 Tm s.2.1 = true then nw_D x T Tm 1 49999 fx d a s else s := by
      intro k s
      unfold nw_V
      rw [if_pos (show 5 - d < x by omega), if_neg (show ¬ 5 - d = x by omega)]
    show (nw_L x T Tm 1 49999 (nw_D x T Tm 1 49999 fx d) (5 - d) a (nw_hi (fx (5 - d)) + 1 - nw_lo (fx (5 - d))) (nw_lo (fx (5 - d))) (f, b, v)).2 = _
    by_cases h : Tm < 50000 ∧ Tm < b
    · rw [if_pos h]
      refine nw_once (by omega) ?_ ?_
      · rw [hV, if_pos (nw_ok_1.mpr h), IH, if_pos h]
      · intro s' k' hs
        rw [hV, if_neg]
        rw [hs, nw_ok_1]
        dsimp only
        omega
    · rw [if_neg h]
      rw [nw_stay]
      intro k
      rw [hV, if_neg (fun z => h (nw_ok_1.mp z))]
/-- what a shrinking search finds -/
theorem nw_shr {x : Nat} {T fx : Nat → Nat} {Tm q f b : Nat} {v r : Int32} (hx : x < 6) (hfx : ∀ v, v < 6 → fx v ≤ 3) (gT : nw_gd Tm) (hq : q < 3) (hop : fx x = 3 ∨ fx x = q) (hTq : T q = Tm) (hfst : ∀ j, j < q → (fx x = 3 ∨ fx x = j) → Tm < T j) (hmin : ∀ j, j < 3 → (fx x = 3 ∨ fx x = j) → Tm ≤ T j)
    (h : (f, b, r) = nw_D x T Tm 1 49999 fx 6 0 (0, 100000, v)) : b = Tm ∧ (Tm < 50000 → r = nI q) := by
  have h1 := nw_sb hx hfx hq hop hTq hfst hmin x (by omega) 6 (by omega) (by omega) 0 0 100000 v
  rw [← h] at h1
  unfold nw_gd at gT
  by_cases c : Tm < 50000 ∧ Tm < 100000
  · rw [if_pos c] at h1
    exact ⟨congrArg Prod.fst h1, fun _ => congrArg Prod.snd h1⟩
  · rw [if_neg c] at h1
    have h2 : b = 100000 := congrArg Prod.fst h1
    exact ⟨by omega, fun z => by omega⟩
/-- counting -/
theorem nw_cl {x : Nat} {T : Nat → Nat} {Tm sh B : Nat} {E : Nat → Nat × Nat × Int32 → Nat × Nat × Int32} {l a m : Nat} (h : ∀ k s, (nw_V x T Tm sh B E l a k s).1 = s.1 + m) (j : Nat) : ∀ k s, (nw_L x T Tm sh B E l a j k s).1 = s.1 + j * m := by
  induction j with
  | zero =>
    intro k s
    show s.1 = _
    omega
  | succ j ih =>
    intro k s
    show (nw_L x T Tm sh B E l a j (k + 1) (nw_V x T Tm sh B E l a k s)).1 = _
    rw [ih, h, Nat.succ_mul]
    omega
theorem nw_ca {x : Nat} {T fx : Nat → Nat} {Tm B a : Nat} (hfx : ∀ v, v < 6 → fx v = 3) (ht : T a < 50000 ∧ T a ≤ B) (d : Nat) : x + d < 6 → ∀ s, (nw_D x T Tm 0 B fx d a s).1 = s.1 + 3 ^ d := by
  induction d with
  | zero => exact fun _ _ => rfl
  | succ d ih =>
    intro hd s
    have h3 := hfx (5 - d) (by omega)
    show (nw_L x T Tm 0 B (nw_D x T Tm 0 B fx d) (5 - d) a (nw_hi (fx (5 - d)) + 1 - nw_lo (fx (5 - d))) (nw_lo (fx (5 - d))) s).1 = _
    rw [h3, nw_cl (m := 3 ^ d)]
    · show s.1 + 3 * 3 ^ d = _
      rw [Nat.pow_succ]
      omega
    · intro k s
      unfold nw_V
      rw [if_neg (show ¬ 5 - d < x by omega), if_neg (show ¬ 5 - d = x by omega), if_pos (nw_ok_0.mpr ht)]
      exact ih (by omega) s
def nw_g (B t : Nat) : Nat := if t < 50000 ∧ t ≤ B then 1 else 0
theorem nw_cb {x : Nat} {T fx : Nat → Nat} {Tm B : Nat} (hx : x < 6) (hfx : ∀ v, v < 6 → fx v = 3) (hmin : ∀ j, j < 3 → Tm ≤ T j) (e : Nat) :
    ∀ d, x + d = 5 + e → d ≤ 5 → ∀ a s, (nw_D x T Tm 0 B fx (d + 1) a s).1 = s.1 + (nw_g B (T 0) + nw_g B (T 1) + nw_g B (T 2)) * 3 ^ d := by
  induction e with
  | zero =>
    intro d hd hd5 a s
    show (nw_L x T Tm 0 B (nw_D x T Tm 0 B fx d) (5 - d) a (nw_hi (fx (5 - d)) + 1 - nw_lo (fx (5 - d))) (nw_lo (fx (5 - d))) s).1 = _
    have h3 := hfx (5 - d) (by omega)
    rw [h3]
    show (nw_V x T Tm 0 B (nw_D x T Tm 0 B fx d) (5 - d) a 2 (nw_V x T Tm 0 B (nw_D x T Tm 0 B fx d) (5 - d) a 1 (nw_V x T Tm 0 B (nw_D x T Tm 0 B fx d) (5 - d) a 0 s))).1 = _
    have hV : ∀ k s, (nw_V x T Tm 0 B (nw_D x T Tm 0 B fx d) (5 - d) a k s).1 = s.1 + nw_g B (T k) * 3 ^ d := by
      intro k s
      unfold nw_V nw_g
      rw [if_neg (show ¬ 5 - d < x by omega), if_pos (show 5 - d = x by omega)]
      by_cases c : T k < 50000 ∧ T k ≤ B
      · rw [if_pos (nw_ok_0.mpr c), if_pos c, nw_ca hfx c d (by omega) s]
        omega
      · rw [if_neg (fun z => c (nw_ok_0.mp z)), if_neg c]
        omega
    rw [hV, hV, hV, Nat.add_mul, Nat.add_mul]
    omega
  | succ e ih =>
    intro d hd hd5 a s
    obtain ⟨d, rfl⟩ : ∃ m, d = m + 1 := ⟨d - 1, by omega⟩
    show (nw_L x T Tm 0 B (nw_D x T Tm 0 B fx (d + 1)) (5 - (d + 1)) a (nw_hi (fx (5 - (d + 1))) + 1 - nw_lo (fx (5 - (d + 1)))) (nw_lo (fx (5 - (d + 1)))) s).1 = _
    have h3 := hfx (5 - (d + 1)) (by omega)
    rw [h3, nw_cl (m := (nw_g B (T 0) + nw_g B (T 1) + nw_g B (T 2)) * 3 ^ d)]
    · show s.1 + 3 * ((nw_g B (T 0) + nw_g B (T 1) + nw_g B (T 2)) * 3 ^ d) = _
      rw [Nat.pow_succ, Nat.mul_comm 3, Nat.mul_assoc]
    · intro k s
      unfold nw_V
      rw [if_pos (show 5 - (d + 1) < x by omega), if_neg (show ¬ 5 - (d + 1) = x by omega)]
      by_cases c : Tm < 50000 ∧ Tm ≤ B
      · rw [if_pos (nw_ok_0.mpr c)]
        exact ih d (by omega) (by omega) a s
      · rw [if_neg (fun z => c (nw_ok_0.mp z))]
        have m0 := hmin 0 (by omega)
        have m1 := hmin 1 (by omega)
        have m2 := hmin 2 (by omega)
        unfold nw_g
        rw [if_neg (by omega), if_neg (by omega), if_neg (by omega)]
        omega
theorem nw_cnt {x : Nat} {T fx : Nat → Nat} {Tm B f b : Nat} {v r : Int32} (hx : x < 6) (hfx : ∀ v, v < 6 → fx v = 3) (hmin : ∀ j, j < 3 → Tm ≤ T j)
    (h : (f, b, r) = nw_D x T Tm 0 B fx 6 0 (0, 100000, v)) : f = 243 * (nw_g B (T 0) + nw_g B (T 1) + nw_g B (T 2)) := by
  have h1 := nw_cb (Tm := Tm) (B := B) hx hfx hmin x 5 (by omega) (by omega) 0 (0, 100000, v)
  rw [← h] at h1
  dsimp only at h1
  omega
end
section
theorem nw_ls_ge {f : Nat} {u : Nat → Nat} {m : Nat} (hm : m ≤ 100000) (k : Nat) (h : ∀ a, a < k → (f = 3 ∨ f = a) → m ≤ u a) : m ≤ nw_ls f u k := by
  induction k with
  | zero => exact hm
  | succ k ih =>
    have h1 := ih (fun a ha => h a (by omega))
    show m ≤ (if f = 3 ∨ f = k then min (nw_ls f u k) (u k) else nw_ls f u k)
    by_cases z : f = 3 ∨ f = k
    · have h2 := h k (by omega) z
      rw [if_pos z]
      omega
    · rw [if_neg z]
      exact h1
theorem nw_ls_eq {f : Nat} {u : Nat → Nat} {m q : Nat} (hm : m ≤ 100000) (hq : q < 3) (hop : f = 3 ∨ f = q) (hu : u q = m) (h : ∀ a, a < 3 → (f = 3 ∨ f = a) → m ≤ u a) : nw_ls f u 3 = m := by
  have h1 := nw_ls_ge hm 3 h
  have h2 : nw_ls f u 3 ≤ u q := nw_ls_mem hq hop
  omega
def nw_rr (m : Nat) : Int32 := if m < 50000 then nI m else -6
theorem nw_rr_6 {m : Nat} : nw_rr m = -6 ↔ ¬ m < 50000 := by
  unfold nw_rr
  by_cases h : m < 50000
  · rw [if_pos h]
    refine ⟨fun z => ?_, fun z => absurd h z⟩
    have := congrArg Int32.toInt z
    rw [nI_toInt (by omega)] at this
    have e : (-6 : Int32).toInt = -6 := by decide
    rw [e] at this
    omega
  · rw [if_neg h]
    exact ⟨fun _ => h, fun _ => rfl⟩
section
variable {rd fl fo be : Int32} {a1 a2 a3 a4 a5 a6 a7 a8 a9 a10 a11 : Nat → Int32}
theorem nw_free {post : St2 → Prop} (H : ∀ c7 : Nat → Int32, (∀ v, v < 6 → c7 v = -1) → post (0, rd, fl, fo, be, a1, a2, a3, a4, a5, a6, c7, a8, a9, a10, a11)) : wpX_freeAll post (0, rd, fl, fo, be, a1, a2, a3, a4, a5, a6, a7, a8, a9, a10, a11) := by
  unfold wpX_freeAll
  dsimp only
  refine pk_loop (fun n i s => wX_freeAll_2 post 0 rd fl fo be n (nI i) a1 a2 a3 a4 a5 a6 s a8 a9 a10 a11) (fun i s => ∀ j, j < i → s j = -1) 6 0 a7 (by omega) (fun j hj => absurd hj (by omega)) ?_ ?_
  · intro n s hs
    exact pk_le 6 6 (fun _ => H s hs) (fun z => absurd z (by omega))
  · intro n i s hi hs hn
    refine pk_le 6 i (fun z => absurd z (by omega)) (fun _ => ⟨pk_in i 6 hi, nm_e (nm_r (nI_1 i) (hn _ ?_))⟩)
    rw [nI_clamp (by omega)]
    intro j hj
    by_cases e : j = i
    · rw [e, pk_us]
    · rw [pk_un e]
      exact hs j (by omega)
theorem nw_lc {post : Int32 → St2 → Prop} {x m q : Nat} {c fx : Nat → Nat} (hx : x < 6) (hc : ∀ a, a < 3 → c a ≤ 20) (hK : nw_K x c rd fl a1 a5) (hf : nw_fix fx a7) (hq : q < 3) (hop : fx x = 3 ∨ fx x = q) (hm : nw_cm (c q) = m) (hfst : ∀ j, j < q → (fx x = 3 ∨ fx x = j) → m < nw_cm (c j)) (hmin : ∀ j, j < 3 → (fx x = 3 ∨ fx x = j) → m ≤ nw_cm (c j))
    (H : ∀ (rd' fl' fo' be' : Int32) (c5 c8 c9 c10 c11 : Nat → Int32), nw_K x c rd' fl' a1 c5 → (m < 50000 → c11 x = nI q) → post (nw_rr m) (0, rd', fl', fo', be', a1, a2, a3, a4, c5, a6, a7, c8, c9, c10, c11)) :
    wpX_leastCost post (0, rd, fl, fo, be, a1, a2, a3, a4, a5, a6, a7, a8, a9, a10, a11) := by
  have gm : nw_gd m := hm ▸ nw_cm_gd (hc q hq)
  have e : nw_ls (fx x) (fun a => nw_cm (c a)) 3 = m := nw_ls_eq (nw_gd_le gm) hq hop hm hmin
  unfold wpX_leastCost
  dsimp only
  refine nw_search (B := 49999) (sh := 1) hx hc hK hf rfl (by omega) rfl (by omega) (fun f b c5 c8 c9 c10 c11 h5 hD hb => ?_)
  dsimp only
  rw [e] at hD
  obtain ⟨hb1, hb2⟩ := nw_shr hx (fun v hv => nw_fix_le hf hv) gm hq hop hm hfst hmin hD
  subst hb1
  have HH := H 1 (nI (nw_F c)) (nI f) (nI b) c5 c8 c9 c10 c11 ⟨hK.1, Or.inr ⟨rfl, rfl, h5⟩⟩ hb2
  unfold nw_rr at HH
  refine pk_lt b 50000 (fun z => ?_) (fun z => ?_)
  · rw [if_pos z] at HH
    exact HH
  · rw [if_neg (by omega)] at HH
    exact HH
theorem nw_fixfree {c7 : Nat → Int32} (h : ∀ v, v < 6 → c7 v = -1) : nw_fix (fun _ => 3) c7 := fun v hv => Or.inr ⟨rfl, h v hv⟩
theorem nw_count {post : Int32 → St2 → Prop} {x B : Nat} {c : Nat → Nat} {p0 : Int32} (hx : x < 6) (hc : ∀ a, a < 3 → c a ≤ 20) (hK : nw_K x c rd fl a1 a5) (hf : ∀ v, v < 6 → a7 v = -1) (hp : p0 = nI B) (hB : B < 50000)
    (H : ∀ (rd' fl' fo' be' : Int32) (c5 c8 c9 c10 c11 : Nat → Int32), nw_K x c rd' fl' a1 c5 → post (nI (243 * (nw_g B (nw_cm (c 0)) + nw_g B (nw_cm (c 1)) + nw_g B (nw_cm (c 2))))) (0, rd', fl', fo', be', a1, a2, a3, a4, c5, a6, a7, c8, c9, c10, c11)) :
    wpX_countUpTo post (0, rd, fl, fo, be, a1, a2, a3, a4, a5, a6, a7, a8, a9, a10, a11) p0 := by
  unfold wpX_countUpTo
  dsimp only
  refine nw_search (B := B) (sh := 0) hx hc hK (nw_fixfree hf) hp hB rfl (by omega) (fun f b c5 c8 c9 c10 c11 h5 hD hb => ?_)
  dsimp only
  have hf' := nw_cnt hx (fun _ _ => rfl) (fun j hj => nw_ls_mem hj (Or.inl rfl)) hD
  subst hf'
  exact H 1 (nI (nw_F c)) _ (nI b) c5 c8 c9 c10 c11 ⟨hK.1, Or.inr ⟨rfl, rfl, h5⟩⟩
/-- x's least cost m stands first at q -/
def nw_at (c : Nat → Nat) (m q : Nat) : Prop := q < 3 ∧ nw_cm (c q) = m ∧ (∀ j, j < q → m < nw_cm (c j)) ∧ (∀ j, j < 3 → m ≤ nw_cm (c j))
theorem nw_lc3 {post : Int32 → St2 → Prop} {x m q : Nat} {c : Nat → Nat} (hx : x < 6) (hc : ∀ a, a < 3 → c a ≤ 20) (hK : nw_K x c rd fl a1 a5) (hf : ∀ v, v < 6 → a7 v = -1) (ha : nw_at c m q)
    (H : ∀ (rd' fl' fo' be' : Int32) (c5 c8 c9 c10 c11 : Nat → Int32), nw_K x c rd' fl' a1 c5 → (m < 50000 → c11 x = nI q) → post (nw_rr m) (0, rd', fl', fo', be', a1, a2, a3, a4, c5, a6, a7, c8, c9, c10, c11)) :
    wpX_leastCost post (0, rd, fl, fo, be, a1, a2, a3, a4, a5, a6, a7, a8, a9, a10, a11) :=
  nw_lc hx hc hK (nw_fixfree hf) ha.1 (Or.inl rfl) ha.2.1 (fun j hj _ => ha.2.2.1 j hj) (fun j hj _ => ha.2.2.2 j hj) H
theorem nw_least {post : Int32 → St2 → Prop} {x m q : Nat} {c : Nat → Nat} (hx : x < 6) (hc : ∀ a, a < 3 → c a ≤ 20) (hK : nw_K x c rd fl a1 a5) (ha : nw_at c m q)
    (H : ∀ (rd' fl' fo' be' : Int32) (c5 c7 c8 c9 c10 c11 : Nat → Int32), nw_K x c rd' fl' a1 c5 → post (nw_rr m) (0, rd', fl', fo', be', a1, a2, a3, a4, c5, a6, c7, c8, c9, c10, c11)) :
    wpX_least post (0, rd, fl, fo, be, a1, a2, a3, a4, a5, a6, a7, a8, a9, a10, a11) := by
  unfold wpX_least
  dsimp only
  refine nw_free (fun c7 h7 => ?_)
  dsimp only
  refine nw_lc3 hx hc hK h7 ha (fun rd' fl' fo' be' c5 c8 c9 c10 c11 k _ => ?_)
  exact H rd' fl' fo' be' c5 c7 c8 c9 c10 c11 k
theorem nw_bv {post : Int32 → Prop} {p : Int32} (x : Nat) (hx : x < 6) (hp : p = nI x) (H : post 0) : wpX_badVariable post () p := by
  subst hp
  exact br_f (nI_pos (by omega)) (pk_lt x 6 (fun _ => H) (fun z => absurd z (by omega)))
theorem nw_value {post : Int32 → St2 → Prop} {x m q : Nat} {c : Nat → Nat} {p0 : Int32} (hx : x < 6) (hp : p0 = nI x) (hc : ∀ a, a < 3 → c a ≤ 20) (hK : nw_K x c rd fl a1 a5) (ha : nw_at c m q)
    (H : ∀ (rd' fl' fo' be' : Int32) (c5 c7 c8 c9 c10 c11 : Nat → Int32), nw_K x c rd' fl' a1 c5 → post (if m < 50000 then nI q else -6) (0, rd', fl', fo', be', a1, a2, a3, a4, c5, a6, c7, c8, c9, c10, c11)) :
    wpX_value post (0, rd, fl, fo, be, a1, a2, a3, a4, a5, a6, a7, a8, a9, a10, a11) p0 := by
  subst hp
  unfold wpX_value
  dsimp only
  refine nw_bv x hx rfl (br_t rfl ?_)
  refine nw_free (fun c7 h7 => ?_)
  dsimp only
  refine nw_lc3 hx hc hK h7 ha (fun rd' fl' fo' be' c5 c8 c9 c10 c11 k h11 => ?_)
  have HH := H rd' fl' fo' be' c5 c7 c8 c9 c10 c11 k
  dsimp only
  by_cases z : m < 50000
  · rw [if_pos z] at HH
    refine br_f (fun z2 => nw_rr_6.mp z2 z) ⟨pk_in x 6 hx, ?_⟩
    rw [nI_clamp (by omega), h11 z]
    exact HH
  · rw [if_neg z] at HH
    exact br_t (nw_rr_6.mpr z) HH
theorem nw_allowed {post : Int32 → St2 → Prop} {x : Nat} {c : Nat → Nat} (hx : x < 6) (hc : ∀ a, a < 3 → c a ≤ 20) (hK : nw_K x c rd fl a1 a5)
    (H : ∀ (rd' fl' fo' be' : Int32) (c5 c7 c8 c9 c10 c11 : Nat → Int32), nw_K x c rd' fl' a1 c5 → post (nI (243 * (nw_g 49999 (nw_cm (c 0)) + nw_g 49999 (nw_cm (c 1)) + nw_g 49999 (nw_cm (c 2))))) (0, rd', fl', fo', be', a1, a2, a3, a4, c5, a6, c7, c8, c9, c10, c11)) :
    wpX_allowed post (0, rd, fl, fo, be, a1, a2, a3, a4, a5, a6, a7, a8, a9, a10, a11) := by
  unfold wpX_allowed
  dsimp only
  refine nw_free (fun c7 h7 => ?_)
  dsimp only
  refine nw_count (B := 49999) hx hc hK h7 rfl (by omega) (fun rd' fl' fo' be' c5 c8 c9 c10 c11 k => ?_)
  exact H rd' fl' fo' be' c5 c7 c8 c9 c10 c11 k
theorem nw_ties {post : Int32 → St2 → Prop} {x m q : Nat} {c : Nat → Nat} (hx : x < 6) (hc : ∀ a, a < 3 → c a ≤ 20) (hK : nw_K x c rd fl a1 a5) (ha : nw_at c m q)
    (H : ∀ (rd' fl' fo' be' : Int32) (c5 c7 c8 c9 c10 c11 : Nat → Int32), nw_K x c rd' fl' a1 c5 → post (if m < 50000 then nI (243 * (nw_g m (nw_cm (c 0)) + nw_g m (nw_cm (c 1)) + nw_g m (nw_cm (c 2)))) else 0) (0, rd', fl', fo', be', a1, a2, a3, a4, c5, a6, c7, c8, c9, c10, c11)) :
    wpX_ties post (0, rd, fl, fo, be, a1, a2, a3, a4, a5, a6, a7, a8, a9, a10, a11) := by
  unfold wpX_ties
  dsimp only
  refine nw_free (fun c7 h7 => ?_)
  dsimp only
  refine nw_lc3 hx hc hK h7 ha (fun rd' fl' fo' be' c5 c8 c9 c10 c11 k _ => ?_)
  dsimp only
  by_cases z : m < 50000
  · refine br_f (fun z2 => nw_rr_6.mp z2 z) ?_
    refine nw_count (B := m) hx hc k h7 (if_pos z) z (fun rd' fl' fo' be' c5 c8 c9 c10 c11 k => ?_)
    have HH := H rd' fl' fo' be' c5 c7 c8 c9 c10 c11 k
    rw [if_pos z] at HH
    exact HH
  · have HH := H rd' fl' fo' be' c5 c7 c8 c9 c10 c11 k
    rw [if_neg z] at HH
    exact br_t (nw_rr_6.mpr z) HH
theorem nw_upTo {post : Int32 → St2 → Prop} {x : Nat} {c : Nat → Nat} {p0 : Int32} (hx : x < 6) (hc : ∀ a, a < 3 → c a ≤ 20) (hK : nw_K x c rd fl a1 a5)
    (H : ∀ (r : Int32) (rd' fl' fo' be' : Int32) (c5 c7 c8 c9 c10 c11 : Nat → Int32), nw_K x c rd' fl' a1 c5 → (p0 < 0 → r = 0) → (∀ b : Nat, b < 2 ^ 31 → p0 = nI b → r = nI (243 * (nw_g (min b 49999) (nw_cm (c 0)) + nw_g (min b 49999) (nw_cm (c 1)) + nw_g (min b 49999) (nw_cm (c 2))))) → post r (0, rd', fl', fo', be', a1, a2, a3, a4, c5, a6, c7, c8, c9, c10, c11)) :
    wpX_upTo post (0, rd, fl, fo, be, a1, a2, a3, a4, a5, a6, a7, a8, a9, a10, a11) p0 := by
  unfold wpX_upTo
  dsimp only
  by_cases hn : p0 < 0
  · have hle : ¬ (0 : Int32) ≤ p0 := by
      intro z
      rw [Int32.le_iff_toInt_le] at z
      rw [Int32.lt_iff_toInt_lt] at hn
      omega
    refine br_f hle (H 0 rd fl fo be a5 a7 a8 a9 a10 a11 hK (fun _ => rfl) ?_)
    intro b hb hp
    subst hp
    exact absurd hn (nI_pos hb)
  · obtain ⟨b, hb, rfl⟩ := nI_of hn
    refine br_t (nI_pos' hb) ?_
    refine nw_free (fun c7 h7 => ?_)
    dsimp only
    have hfin : ∀ (B : Nat) (rd' fl' fo' be' : Int32) (c5 c8 c9 c10 c11 : Nat → Int32), B = min b 49999 → nw_K x c rd' fl' a1 c5 → post (nI (243 * (nw_g B (nw_cm (c 0)) + nw_g B (nw_cm (c 1)) + nw_g B (nw_cm (c 2))))) (0, rd', fl', fo', be', a1, a2, a3, a4, c5, a6, c7, c8, c9, c10, c11) := by
      intro B rd' fl' fo' be' c5 c8 c9 c10 c11 eB k
      refine H _ rd' fl' fo' be' c5 c7 c8 c9 c10 c11 k (fun z => absurd z hn) ?_
      intro b2 hb2 e2
      rw [nI_eq hb hb2] at e2
      rw [eB, e2]
    refine pk_le 50000 b (fun z => ?_) (fun z => ?_)
    · unfold wX_upTo_23
      refine nw_count (B := 49999) hx hc hK h7 rfl (by omega) (fun rd' fl' fo' be' c5 c8 c9 c10 c11 k => ?_)
      exact hfin 49999 rd' fl' fo' be' c5 c8 c9 c10 c11 (by omega) k
    · unfold wX_upTo_23
      refine nw_count (B := b) hx hc hK h7 rfl (by omega) (fun rd' fl' fo' be' c5 c8 c9 c10 c11 k => ?_)
      exact hfin b rd' fl' fo' be' c5 c8 c9 c10 c11 (by omega) k
theorem nw_leastWith {post : Int32 → St2 → Prop} {x k0 : Nat} {c : Nat → Nat} {p0 p1 : Int32} (hx : x < 6) (hp : p0 = nI x) (h0 : k0 < 3) (hp1 : p1 = nI k0) (hc : ∀ a, a < 3 → c a ≤ 20) (hK : nw_K x c rd fl a1 a5)
    (H : ∀ (rd' fl' fo' be' : Int32) (c5 c7 c8 c9 c10 c11 : Nat → Int32), nw_K x c rd' fl' a1 c5 → post (nw_rr (nw_cm (c k0))) (0, rd', fl', fo', be', a1, a2, a3, a4, c5, a6, c7, c8, c9, c10, c11)) :
    wpX_leastWith post (0, rd, fl, fo, be, a1, a2, a3, a4, a5, a6, a7, a8, a9, a10, a11) p0 p1 := by
  subst hp hp1
  unfold wpX_leastWith
  dsimp only
  refine nw_bv x hx rfl (br_t rfl (br_f (nI_pos (by omega)) (pk_lt k0 3 (fun _ => ?_) (fun z => absurd z (by omega)))))
  refine nw_free (fun c7 h7 => ?_)
  dsimp only
  refine ⟨pk_in x 6 hx, nm_e ?_⟩
  rw [nI_clamp (show x < 2 ^ 31 by omega)]
  refine nw_lc (q := k0) (m := nw_cm (c k0)) (fx := fun v => if v = x then k0 else 3) hx hc hK ?_ h0 (Or.inr (if_pos rfl)) rfl ?_ ?_ (fun rd' fl' fo' be' c5 c8 c9 c10 c11 k _ => ?_)
  · intro v hv
    by_cases e : v = x
    · subst e
      left
      dsimp only
      rw [if_pos rfl]
      exact ⟨h0, pk_us⟩
    · right
      dsimp only
      rw [if_neg e]
      exact ⟨rfl, by rw [pk_un e]; exact h7 v hv⟩
  · intro j hj hj2
    rw [if_pos rfl] at hj2
    omega
  · intro j hj hj2
    rw [if_pos rfl] at hj2
    obtain rfl : k0 = j := by omega
    exact Nat.le_refl _
  · exact H rd' fl' fo' be' c5 _ c8 c9 c10 c11 k
end
section
variable {a1 a2 a3 a4 a6 : Nat → Int32}
theorem nw_can36 {post : Int32 → St2 → Prop} {x y m q : Nat} {c : Nat → Nat} (hx : x < 6) (hy : y < 6) (hc : ∀ a, a < 3 → c a ≤ 20) (ha : nw_at c m q) (hm : m < 50000)
    (H : ∀ (rd fl fo be : Int32) (a5 a7 a8 a9 a10 a11 : Nat → Int32), post 1 (0, rd, fl, fo, be, a1, a2, a3, a4, a5, a6, a7, a8, a9, a10, a11)) (k : Nat) :
    ∀ i, i + k = q → ∀ (rd fl fo be : Int32) (a5 a7 a8 a9 a10 a11 : Nat → Int32), nw_K x c rd fl a1 a5 → wX_canAgree_36 post (nI x) (nI y) (nI m) (k + 1) (nI i) 0 rd fl fo be a1 a2 a3 a4 a5 a6 a7 a8 a9 a10 a11 := by
  obtain ⟨hq, hmq, hfst, hmin⟩ := ha
  have hit : ∀ n i, i < 3 → (nw_cm (c i) ≠ m → ∀ (rd fl fo be : Int32) (a5 a7 a8 a9 a10 a11 : Nat → Int32), nw_K x c rd fl a1 a5 → wX_canAgree_36 post (nI x) (nI y) (nI m) n (nI (i + 1)) 0 rd fl fo be a1 a2 a3 a4 a5 a6 a7 a8 a9 a10 a11) → ∀ (rd fl fo be : Int32) (a5 a7 a8 a9 a10 a11 : Nat → Int32), nw_K x c rd fl a1 a5 → wX_canAgree_36 post (nI x) (nI y) (nI m) (n + 1) (nI i) 0 rd fl fo be a1 a2 a3 a4 a5 a6 a7 a8 a9 a10 a11 := by
    intro n i hi HN rd fl fo be a5 a7 a8 a9 a10 a11 hK
    refine pk_le 3 i (fun z => absurd z (by omega)) (fun _ => ?_)
    refine nw_free (fun c7 h7 => ?_)
    dsimp only
    refine ⟨pk_in x 6 hx, nm_e ⟨pk_in y 6 hy, nm_e ?_⟩⟩
    rw [nI_clamp (show x < 2 ^ 31 by omega), nI_clamp (show y < 2 ^ 31 by omega)]
    refine nw_lc (q := i) (m := nw_cm (c i)) (fx := fun v => if v = y then i else if v = x then i else 3) hx hc hK ?_ hi (Or.inr ?_) rfl ?_ ?_ (fun rd' fl' fo' be' c5 c8 c9 c10 c11 k _ => ?_)
    · intro v hv
      dsimp only
      by_cases e : v = y
      · left
        rw [if_pos e, e]
        exact ⟨hi, pk_us⟩
      · rw [if_neg e, pk_un e]
        by_cases e2 : v = x
        · left
          rw [if_pos e2, e2]
          exact ⟨hi, pk_us⟩
        · right
          rw [if_neg e2, pk_un e2]
          exact ⟨rfl, h7 v hv⟩
    · rw [if_pos (show x = x from rfl)]
      split <;> rfl
    · intro j hj hj2
      rw [if_pos (show x = x from rfl)] at hj2
      have : (if x = y then i else i) = i := by split <;> rfl
      omega
    · intro j hj hj2
      rw [if_pos (show x = x from rfl)] at hj2
      have : (if x = y then i else i) = i := by split <;> rfl
      obtain rfl : i = j := by omega
      exact Nat.le_refl _
    · dsimp only
      by_cases e : nw_cm (c i) = m
      · refine br_t ?_ (H _ _ _ _ _ _ _ _ _ _)
        unfold nw_rr
        rw [e, if_pos hm]
      · refine br_f ?_ (nm_r (nI_1 i) (HN e _ _ _ _ _ _ _ _ _ _ k))
        intro z
        unfold nw_rr at z
        by_cases e2 : nw_cm (c i) < 50000
        · rw [if_pos e2, nI_eq (by omega) (by omega)] at z
          exact e z
        · have z2 : nw_rr m = -6 := by
            unfold nw_rr
            rw [if_pos hm, ← z, if_neg e2]
          exact nw_rr_6.mp z2 hm
  induction k with
  | zero =>
    intro i hi
    obtain rfl : i = q := by omega
    exact hit 0 i hq (fun e => absurd hmq e)
  | succ k ih =>
    intro i hi
    exact hit (k + 1) i (by omega) (fun _ => ih (i + 1) (by omega))
theorem nw_can {post : Int32 → St2 → Prop} {rd fl fo be : Int32} {a5 a7 a8 a9 a10 a11 : Nat → Int32} {x y m q : Nat} {c : Nat → Nat} {p0 p1 : Int32} (hx : x < 6) (hy : y < 6) (hp : p0 = nI x) (hp1 : p1 = nI y) (hc : ∀ a, a < 3 → c a ≤ 20) (hK : nw_K x c rd fl a1 a5) (ha : nw_at c m q)
    (H : ∀ (rd fl fo be : Int32) (a5 a7 a8 a9 a10 a11 : Nat → Int32), post (if m < 50000 then 1 else 0) (0, rd, fl, fo, be, a1, a2, a3, a4, a5, a6, a7, a8, a9, a10, a11)) : wpX_canAgree post (0, rd, fl, fo, be, a1, a2, a3, a4, a5, a6, a7, a8, a9, a10, a11) p0 p1 := by
  subst hp hp1
  unfold wpX_canAgree
  dsimp only
  refine nw_bv x hx rfl (br_t rfl (nw_bv y hy rfl (br_t rfl ?_)))
  refine nw_free (fun c7 h7 => ?_)
  dsimp only
  refine nw_lc3 hx hc hK h7 ha (fun rd' fl' fo' be' c5 c8 c9 c10 c11 k _ => ?_)
  dsimp only
  by_cases z : m < 50000
  · refine br_f (fun z2 => nw_rr_6.mp z2 z) ⟨q + 1, ?_⟩
    rw [show nw_rr m = nI m from if_pos z]
    refine nw_can36 hx hy hc ha z ?_ q 0 (by omega) _ _ _ _ _ _ _ _ _ _ k
    intro rd fl fo be a5 a7 a8 a9 a10 a11
    have HH := H rd fl fo be a5 a7 a8 a9 a10 a11
    rw [if_pos z] at HH
    exact HH
  · have HH := H rd' fl' fo' be' c5 c7 c8 c9 c10 c11
    rw [if_neg z] at HH
    exact br_t (nw_rr_6.mpr z) HH
end
end
section
def nw_U (p4 : Int32) (k : Nat) : Nat := if k < 20 ∧ ¬ p4 < nI k then 1 else 0
def nw_O (k : Nat) : Nat := if k < 20 then 1 else 0
def nw_E (mn k : Nat) : Nat := if k = mn then 1 else 0
/-- the law's numbers: least mn of the three costs, none nn, its first place q -/
def nw_Z (x m q mn nn : Nat) (c : Nat → Nat) : Prop := x < 6 ∧ (∀ a, a < 3 → c a ≤ 20) ∧ nw_at c m q ∧ m = nw_cm mn ∧ mn ≤ 20 ∧ (∀ a, a < 3 → mn ≤ c a) ∧ nn = if mn = 20 then 1 else 0
theorem nw_Ustep {p4 : Int32} {k : Nat} {A B : Prop} (hk : k ≤ 20) (f : nw_U p4 k = 0 → A) (g : nw_U p4 k = 1 → B) : (20 ≤ nI k → A) ∧ (¬ 20 ≤ nI k → ((p4 < nI k → A) ∧ (¬ p4 < nI k → B))) := by
  refine pk_le 20 k (fun z => f ?_) (fun z => br_c (fun z2 => f ?_) (fun z2 => g ?_))
  · exact if_neg (by omega)
  · exact if_neg (fun z3 => z3.2 z2)
  · exact if_pos ⟨z, z2⟩
theorem nw_Ostep {k : Nat} {A B : Prop} (hk : k ≤ 20) (f : nw_O k = 0 → A) (g : nw_O k = 1 → B) : (20 ≤ nI k → A) ∧ (¬ 20 ≤ nI k → B) := by
  refine pk_le 20 k (fun z => f ?_) (fun z => g ?_)
  · exact if_neg (by omega)
  · exact if_pos z
theorem nw_Estep {mn k : Nat} {A B : Prop} (hk : k ≤ 20) (hm : mn ≤ 20) (f : nw_E mn k = 1 → A) (g : nw_E mn k = 0 → B) : (nI k = nI mn → A) ∧ (¬ nI k = nI mn → B) := by
  refine pk_eq k mn (fun z => f ?_) (fun z => g ?_)
  · exact if_pos z
  · exact if_neg z
theorem nw_gU {p4 : Int32} {b k : Nat} (hb : b < 2 ^ 31) (hp : p4 = nI b) (hk : k ≤ 20) : nw_g (min b 49999) (nw_cm k) = nw_U p4 k := by
  subst hp
  unfold nw_g nw_U nw_cm
  have e : nI b < nI k ↔ b < k := nI_ltI hb (by omega)
  by_cases h1 : k = 20
  · rw [if_pos h1, if_neg (by omega), if_neg (fun y => absurd y.1 (by omega))]
  · rw [if_neg h1]
    by_cases h2 : k ≤ b
    · rw [if_pos (by omega), if_pos ⟨by omega, fun y => absurd (e.mp y) (by omega)⟩]
    · rw [if_neg (by omega), if_neg (fun y => y.2 (e.mpr (by omega)))]
theorem nw_nU {p4 : Int32} {k : Nat} (hp : p4 < 0) (hk : k ≤ 20) : nw_U p4 k = 0 := by
  refine if_neg (fun z => z.2 ?_)
  have e : (0 : Int32).toInt = 0 := by decide
  rw [Int32.lt_iff_toInt_lt, e] at hp
  rw [Int32.lt_iff_toInt_lt, nI_toInt (by omega)]
  omega
theorem nw_gO {k : Nat} (hk : k ≤ 20) : nw_g 49999 (nw_cm k) = nw_O k := by
  unfold nw_g nw_O nw_cm
  by_cases h1 : k = 20
  · rw [if_pos h1, if_neg (by omega), if_neg (by omega)]
  · rw [if_neg h1, if_pos (by omega), if_pos (by omega)]
theorem nw_gE {mn k : Nat} (hk : k ≤ 20) (hm : mn < 20) (hmk : mn ≤ k) : nw_g (nw_cm mn) (nw_cm k) = nw_E mn k := by
  unfold nw_g nw_E nw_cm
  rw [if_neg (show ¬ mn = 20 by omega)]
  by_cases h1 : k = 20
  · rw [if_pos h1, if_neg (by omega), if_neg (by omega)]
  · rw [if_neg h1]
    by_cases h2 : k = mn
    · rw [if_pos (by omega), if_pos (by omega)]
    · rw [if_neg (by omega), if_neg (by omega)]
theorem nw_cm_lt {mn : Nat} (hm : mn ≤ 20) : nw_cm mn < 50000 ↔ mn < 20 := by
  unfold nw_cm
  split <;> omega
section
variable {post : Int32 → St0 → Prop} {mc ms kc ks x m q mn nn : Nat} {c : Nat → Nat} {p4 : Int32} {rd fl fo be : Int32} {a1 a2 a3 a4 a5 a6 a7 a8 a9 a10 a11 : Nat → Int32}
theorem nw_l415 {z0 z1 : Int32} (Z : nw_Z x m q mn nn c) (H : post 1 ()) (hK : nw_K x c rd fl a1 a5) (hz : z1 = z0) : wL_lawOf_415 post mc ms (nI x) (nI nn) z0 z1 kc ks 0 rd fl fo be a1 a2 a3 a4 a5 a6 a7 a8 a9 a10 a11 := by
  obtain ⟨hx, hc, ha, hm, hmn, hle, hnn⟩ := Z
  unfold wL_lawOf_415
  refine br_t hz ⟨by decide, ?_⟩
  refine nw_can (y := (x + 1) % 6) hx (by omega) rfl ?_ hc hK ha ?_
  · rw [nI_1]
    exact pk_rem (d := 6) (by omega) (by omega) (by omega)
  · intro rd fl fo be a5 a7 a8 a9 a10 a11
    dsimp only
    refine br_f ?_ H
    intro z
    have h6 : m < 50000 ↔ mn < 20 := by
      rw [hm]
      exact nw_cm_lt hmn
    by_cases h : mn < 20
    · rw [if_pos (h6.mpr h), hnn, if_neg (by omega)] at z
      exact absurd z (by decide)
    · rw [if_neg (fun y => h (h6.mp y)), hnn, if_pos (by omega)] at z
      exact absurd z (by decide)
theorem nw_l372 {z0 z1 : Int32} (Z : nw_Z x m q mn nn c) (H : post 1 ()) (hK : nw_K x c rd fl a1 a5) (hz : z1 + z0 = nI (nw_U p4 (c 0) + nw_U p4 (c 1) + nw_U p4 (c 2))) : wL_lawOf_372 post mc ms p4 (nI x) (nI (c 1)) (nI nn) z0 z1 kc ks 0 rd fl fo be a1 a2 a3 a4 a5 a6 a7 a8 a9 a10 a11 := by
  have Z' := Z
  obtain ⟨hx, hc, ha, hm, hmn, hle, hnn⟩ := Z'
  have c0 := hc 0 (by omega)
  have c1 := hc 1 (by omega)
  have c2 := hc 2 (by omega)
  unfold wL_lawOf_372
  refine nm_r hz ?_
  refine nw_upTo hx hc hK (fun r rd' fl' fo' be' c5 c7 c8 c9 c10 c11 k hn hp => ?_)
  dsimp only
  refine br_t ?_ ?_
  · rw [show (243 : Int32) = nI 243 from rfl, pk_mul]
    by_cases z : p4 < 0
    · rw [hn z, nw_nU z c0, nw_nU z c1, nw_nU z c2]
      rfl
    · obtain ⟨b, hb, e⟩ := nI_of z
      rw [hp b hb e, nw_gU hb e c0, nw_gU hb e c1, nw_gU hb e c2]
  · refine nw_leastWith (k0 := 1) hx rfl (by omega) rfl hc k (fun rd' fl' fo' be' c5 c7 c8 c9 c10 c11 k => ?_)
    dsimp only
    refine pk_eq (c 1) 20 (fun z => nw_l415 Z H k ?_) (fun z => nw_l415 Z H k ?_)
    · rw [z]
      rfl
    · unfold nw_rr nw_cm
      rw [if_neg z, if_pos (by omega)]
theorem nw_l352 {u0 u1 : Nat} (Z : nw_Z x m q mn nn c) (H : post 1 ()) (hK : nw_K x c rd fl a1 a5) (h0 : u0 = nw_U p4 (c 0)) (h1 : u1 = nw_U p4 (c 1)) : wL_lawOf_352 post mc ms p4 (nI x) (nI (c 1)) (nI (c 2)) (nI nn) (nI u1) (nI u0) kc ks 0 rd fl fo be a1 a2 a3 a4 a5 a6 a7 a8 a9 a10 a11 := by
  have c2 := Z.2.1 2 (by omega)
  have e0 : ∀ k, nw_U p4 (c 2) = k → nI u0 + nI u1 + nI k = nI (nw_U p4 (c 0) + nw_U p4 (c 1) + nw_U p4 (c 2)) := by
    intro k hk
    rw [nI_add, nI_add, hk, h0, h1]
  unfold wL_lawOf_352
  refine nw_Ustep (p4 := p4) (k := c 2) c2 (fun z => ?_) (fun z => ?_)
  · unfold wL_lawOf_371
    exact nw_l372 Z H hK (e0 0 z)
  · exact nw_l372 Z H hK (e0 1 z)
theorem nw_l333 {u0 : Nat} (Z : nw_Z x m q mn nn c) (H : post 1 ()) (hK : nw_K x c rd fl a1 a5) (h0 : u0 = nw_U p4 (c 0)) : wL_lawOf_333 post mc ms p4 (nI x) (nI (c 1)) (nI (c 2)) (nI nn) (nI u0) kc ks 0 rd fl fo be a1 a2 a3 a4 a5 a6 a7 a8 a9 a10 a11 := by
  unfold wL_lawOf_333
  refine nw_Ustep (p4 := p4) (k := c 1) (Z.2.1 1 (by omega)) (fun z => ?_) (fun z => ?_)
  · unfold wL_lawOf_351
    exact nw_l352 (u1 := 0) Z H hK h0 z.symm
  · exact nw_l352 (u1 := 1) Z H hK h0 z.symm
theorem nw_l309 {z0 z1 : Int32} (Z : nw_Z x m q mn nn c) (H : post 1 ()) (hK : nw_K x c rd fl a1 a5) (hz : z1 = z0) : wL_lawOf_309 post mc ms p4 (nI x) (nI (c 0)) (nI (c 1)) (nI (c 2)) (nI nn) z0 z1 kc ks 0 rd fl fo be a1 a2 a3 a4 a5 a6 a7 a8 a9 a10 a11 := by
  unfold wL_lawOf_309
  refine br_t hz (nw_Ustep (p4 := p4) (k := c 0) (Z.2.1 0 (by omega)) (fun z => ?_) (fun z => ?_))
  · unfold wL_lawOf_332
    exact nw_l333 (u0 := 0) Z H hK z.symm
  · exact nw_l333 (u0 := 1) Z H hK z.symm
theorem nw_l286 {z0 z1 : Int32} (Z : nw_Z x m q mn nn c) (H : post 1 ()) (hK : nw_K x c rd fl a1 a5) (hz : z1 + z0 = nI (nw_E mn (c 0) + nw_E mn (c 1) + nw_E mn (c 2))) : wL_lawOf_286 post mc ms p4 (nI x) (nI (c 0)) (nI (c 1)) (nI (c 2)) (nI nn) z0 z1 kc ks 0 rd fl fo be a1 a2 a3 a4 a5 a6 a7 a8 a9 a10 a11 := by
  have Z' := Z
  obtain ⟨hx, hc, ha, hm, hmn, hle, hnn⟩ := Z'
  unfold wL_lawOf_286
  refine nm_r hz ?_
  refine nw_ties hx hc hK ha (fun rd' fl' fo' be' c5 c7 c8 c9 c10 c11 k => ?_)
  dsimp only
  have h6 : m < 50000 ↔ mn < 20 := by
    rw [hm]
    exact nw_cm_lt hmn
  refine pk_eq nn 0 (fun z => nw_l309 Z H k ?_) (fun z => nw_l309 Z H k ?_) rfl rfl (by split at hnn <;> omega)
  · have h : mn < 20 := by
      split at hnn <;> omega
    rw [if_pos (h6.mpr h), hm, nw_gE (hc 0 (by omega)) h (hle 0 (by omega)), nw_gE (hc 1 (by omega)) h (hle 1 (by omega)), nw_gE (hc 2 (by omega)) h (hle 2 (by omega)), show (243 : Int32) = nI 243 from rfl, pk_mul]
  · have h : ¬ mn < 20 := by
      split at hnn <;> omega
    rw [if_neg (fun y => h (h6.mp y))]
theorem nw_l273 {u0 u1 : Nat} (Z : nw_Z x m q mn nn c) (H : post 1 ()) (hK : nw_K x c rd fl a1 a5) (h0 : u0 = nw_E mn (c 0)) (h1 : u1 = nw_E mn (c 1)) : wL_lawOf_273 post mc ms p4 (nI x) (nI (c 0)) (nI (c 1)) (nI (c 2)) (nI mn) (nI nn) (nI u1) (nI u0) kc ks 0 rd fl fo be a1 a2 a3 a4 a5 a6 a7 a8 a9 a10 a11 := by
  have e0 : ∀ k, nw_E mn (c 2) = k → nI u0 + nI u1 + nI k = nI (nw_E mn (c 0) + nw_E mn (c 1) + nw_E mn (c 2)) := by
    intro k hk
    rw [nI_add, nI_add, hk, h0, h1]
  unfold wL_lawOf_273
  exact nw_Estep (mn := mn) (k := c 2) (Z.2.1 2 (by omega)) Z.2.2.2.2.1 (fun z => nw_l286 Z H hK (e0 1 z)) (fun z => nw_l286 Z H hK (e0 0 z))
theorem nw_l261 {u0 : Nat} (Z : nw_Z x m q mn nn c) (H : post 1 ()) (hK : nw_K x c rd fl a1 a5) (h0 : u0 = nw_E mn (c 0)) : wL_lawOf_261 post mc ms p4 (nI x) (nI (c 0)) (nI (c 1)) (nI (c 2)) (nI mn) (nI nn) (nI u0) kc ks 0 rd fl fo be a1 a2 a3 a4 a5 a6 a7 a8 a9 a10 a11 := by
  unfold wL_lawOf_261
  exact nw_Estep (mn := mn) (k := c 1) (Z.2.1 1 (by omega)) Z.2.2.2.2.1 (fun z => nw_l273 (u1 := 1) Z H hK h0 z.symm) (fun z => nw_l273 (u1 := 0) Z H hK h0 z.symm)
theorem nw_l230 {z0 z1 : Int32} (Z : nw_Z x m q mn nn c) (H : post 1 ()) (hK : nw_K x c rd fl a1 a5) (hz : z1 + z0 = nI (nw_O (c 0) + nw_O (c 1) + nw_O (c 2))) : wL_lawOf_230 post mc ms p4 (nI x) (nI (c 0)) (nI (c 1)) (nI (c 2)) (nI mn) (nI nn) z0 z1 kc ks 0 rd fl fo be a1 a2 a3 a4 a5 a6 a7 a8 a9 a10 a11 := by
  have Z' := Z
  obtain ⟨hx, hc, ha, hm, hmn, hle, hnn⟩ := Z'
  unfold wL_lawOf_230
  refine nm_r hz ?_
  refine nw_allowed hx hc hK (fun rd' fl' fo' be' c5 c7 c8 c9 c10 c11 k => ?_)
  dsimp only
  refine br_t ?_ ?_
  · rw [show (243 : Int32) = nI 243 from rfl, pk_mul, nw_gO (hc 0 (by omega)), nw_gO (hc 1 (by omega)), nw_gO (hc 2 (by omega))]
  · exact nw_Estep (mn := mn) (k := c 0) (hc 0 (by omega)) hmn (fun z => nw_l261 (u0 := 1) Z H k z.symm) (fun z => nw_l261 (u0 := 0) Z H k z.symm)
theorem nw_l217 {u0 u1 : Nat} (Z : nw_Z x m q mn nn c) (H : post 1 ()) (hK : nw_K x c rd fl a1 a5) (h0 : u0 = nw_O (c 0)) (h1 : u1 = nw_O (c 1)) : wL_lawOf_217 post mc ms p4 (nI x) (nI (c 0)) (nI (c 1)) (nI (c 2)) (nI mn) (nI nn) (nI u1) (nI u0) kc ks 0 rd fl fo be a1 a2 a3 a4 a5 a6 a7 a8 a9 a10 a11 := by
  have e0 : ∀ k, nw_O (c 2) = k → nI u0 + nI u1 + nI k = nI (nw_O (c 0) + nw_O (c 1) + nw_O (c 2)) := by
    intro k hk
    rw [nI_add, nI_add, hk, h0, h1]
  unfold wL_lawOf_217
  exact nw_Ostep (k := c 2) (Z.2.1 2 (by omega)) (fun z => nw_l230 Z H hK (e0 0 z)) (fun z => nw_l230 Z H hK (e0 1 z))
theorem nw_l205 {u0 : Nat} (Z : nw_Z x m q mn nn c) (H : post 1 ()) (hK : nw_K x c rd fl a1 a5) (h0 : u0 = nw_O (c 0)) : wL_lawOf_205 post mc ms p4 (nI x) (nI (c 0)) (nI (c 1)) (nI (c 2)) (nI mn) (nI nn) (nI u0) kc ks 0 rd fl fo be a1 a2 a3 a4 a5 a6 a7 a8 a9 a10 a11 := by
  unfold wL_lawOf_205
  exact nw_Ostep (k := c 1) (Z.2.1 1 (by omega)) (fun z => nw_l217 (u1 := 0) Z H hK h0 z.symm) (fun z => nw_l217 (u1 := 1) Z H hK h0 z.symm)
theorem nw_l188 {z0 z1 : Int32} (Z : nw_Z x m q mn nn c) (H : post 1 ()) (hK : nw_K x c rd fl a1 a5) (hz : z1 = z0) : wL_lawOf_188 post mc ms p4 (nI x) (nI (c 0)) (nI (c 1)) (nI (c 2)) (nI mn) (nI nn) z0 z1 kc ks 0 rd fl fo be a1 a2 a3 a4 a5 a6 a7 a8 a9 a10 a11 := by
  unfold wL_lawOf_188
  exact br_t hz (nw_Ostep (k := c 0) (Z.2.1 0 (by omega)) (fun z => nw_l205 (u0 := 0) Z H hK z.symm) (fun z => nw_l205 (u0 := 1) Z H hK z.symm))
theorem nw_l166 {z0 z1 : Int32} (Z : nw_Z x m q mn nn c) (H : post 1 ()) (hK : nw_K x c rd fl a1 a5) (hz : z1 = z0) : wL_lawOf_166 post mc ms p4 (nI x) (nI (c 0)) (nI (c 1)) (nI (c 2)) (nI mn) (nI nn) (nI q) z0 z1 kc ks 0 rd fl fo be a1 a2 a3 a4 a5 a6 a7 a8 a9 a10 a11 := by
  have Z' := Z
  obtain ⟨hx, hc, ha, hm, hmn, hle, hnn⟩ := Z'
  have h6 : m < 50000 ↔ mn < 20 := by
    rw [hm]
    exact nw_cm_lt hmn
  unfold wL_lawOf_166
  refine br_t hz (nw_value hx rfl hc hK ha (fun rd' fl' fo' be' c5 c7 c8 c9 c10 c11 k => ?_))
  dsimp only
  refine pk_eq nn 0 (fun z => nw_l188 Z H k ?_) (fun z => nw_l188 Z H k ?_) rfl rfl (by split at hnn <;> omega)
  · exact if_pos (h6.mpr (by split at hnn <;> omega))
  · exact if_neg (fun y => absurd (h6.mp y) (by split at hnn <;> omega))
theorem nw_l147 (Z : nw_Z x m q mn nn c) (H : post 1 ()) (hK : nw_K x c rd fl a1 a5) : wL_lawOf_147 post mc ms p4 (nI x) (nI (c 0)) (nI (c 1)) (nI (c 2)) (nI mn) (nI nn) (nI q) kc ks 0 rd fl fo be a1 a2 a3 a4 a5 a6 a7 a8 a9 a10 a11 := by
  have Z' := Z
  obtain ⟨hx, hc, ha, hm, hmn, hle, hnn⟩ := Z'
  have h6 : m < 50000 ↔ mn < 20 := by
    rw [hm]
    exact nw_cm_lt hmn
  unfold wL_lawOf_147
  refine nw_least hx hc hK ha (fun rd' fl' fo' be' c5 c7 c8 c9 c10 c11 k => ?_)
  dsimp only
  refine pk_eq nn 0 (fun z => nw_l166 Z H k ?_) (fun z => nw_l166 Z H k ?_) rfl rfl (by split at hnn <;> omega)
  · have h : mn < 20 := by
      split at hnn <;> omega
    unfold nw_rr
    rw [if_pos (h6.mpr h), hm]
    unfold nw_cm
    rw [if_neg (by omega)]
  · exact if_neg (fun y => absurd (h6.mp y) (by split at hnn <;> omega))
theorem nw_cm_le {a b : Nat} (hb : b ≤ 20) (h : a ≤ b) : nw_cm a ≤ nw_cm b := by
  unfold nw_cm
  split <;> split <;> omega
theorem nw_cm_lt2 {a b : Nat} (hb : b ≤ 20) (h : a < b) : nw_cm a < nw_cm b := by
  unfold nw_cm
  split <;> split <;> omega
theorem nw_l122 (hx : x < 6) (hc : ∀ a, a < 3 → c a ≤ 20) (hmn : mn = min (min (c 0) (c 1)) (c 2)) (hnn : nn = if mn = 20 then 1 else 0) (H : post 1 ()) (hK : nw_K x c rd fl a1 a5) : wL_lawOf_122 post mc ms p4 (nI x) (nI (c 0)) (nI (c 1)) (nI (c 2)) (nI mn) (nI nn) kc ks 0 rd fl fo be a1 a2 a3 a4 a5 a6 a7 a8 a9 a10 a11 := by
  have c0 := hc 0 (by omega)
  have c1 := hc 1 (by omega)
  have c2 := hc 2 (by omega)
  have hle : ∀ a, a < 3 → mn ≤ c a := by
    intro a ha
    have h3 : a = 0 ∨ a = 1 ∨ a = 2 := by omega
    rcases h3 with rfl | rfl | rfl <;> omega
  have hZ : ∀ q, q < 3 → c q = mn → (∀ j, j < q → c j ≠ mn) → nw_Z x (nw_cm mn) q mn nn c := by
    intro q hq h1 h2
    refine ⟨hx, hc, ⟨hq, by rw [h1], fun j hj => ?_, fun j hj => nw_cm_le (hc j hj) (hle j hj)⟩, rfl, by omega, hle, hnn⟩
    refine nw_cm_lt2 (hc j (by omega)) ?_
    have := hle j (by omega)
    have := h2 j hj
    omega
  unfold wL_lawOf_122
  refine pk_eq (c 0) mn (fun z => ?_) (fun z => pk_eq (c 1) mn (fun z1 => ?_) (fun z1 => ?_))
  · exact nw_l147 (q := 0) (hZ 0 (by omega) z (fun j hj => absurd hj (by omega))) H hK
  · exact nw_l147 (q := 1) (hZ 1 (by omega) z1 (fun j hj => (show j = 0 by omega) ▸ z)) H hK
  · refine nw_l147 (q := 2) (hZ 2 (by omega) (by omega) (fun j hj => ?_)) H hK
    have h3 : j = 0 ∨ j = 1 := by omega
    rcases h3 with rfl | rfl
    · exact z
    · exact z1
theorem nw_l78 {z0 z1 : Int32} (hx : x < 6) (hc : ∀ a, a < 3 → c a ≤ 20) (H : post 1 ()) (hK : nw_K x c rd fl a1 a5) (hz : z1 = z0) : wL_lawOf_78 post mc ms p4 (nI x) (nI (c 0)) (nI (c 1)) (nI (c 2)) z0 z1 kc ks 0 rd fl fo be a1 a2 a3 a4 a5 a6 a7 a8 a9 a10 a11 := by
  have c0 := hc 0 (by omega)
  have c1 := hc 1 (by omega)
  have c2 := hc 2 (by omega)
  have h110 : ∀ mn, mn = min (min (c 0) (c 1)) (c 2) → wL_lawOf_110 post mc ms p4 (nI x) (nI (c 0)) (nI (c 1)) (nI (c 2)) (nI mn) kc ks 0 rd fl fo be a1 a2 a3 a4 a5 a6 a7 a8 a9 a10 a11 := by
    intro mn hmn
    unfold wL_lawOf_110
    exact pk_eq mn 20 (fun z => nw_l122 (nn := 1) hx hc hmn (if_pos z).symm H hK) (fun z => nw_l122 (nn := 0) hx hc hmn (if_neg z).symm H hK)
  have h97 : ∀ k, k = min (c 0) (c 1) → wL_lawOf_97 post mc ms p4 (nI x) (nI (c 0)) (nI (c 1)) (nI (c 2)) (nI k) kc ks 0 rd fl fo be a1 a2 a3 a4 a5 a6 a7 a8 a9 a10 a11 := by
    intro k hk
    unfold wL_lawOf_97
    exact pk_le k (c 2) (fun z => h110 k (by omega)) (fun z => h110 (c 2) (by omega))
  unfold wL_lawOf_78
  exact br_t hz (pk_le (c 1) (c 0) (fun z => h97 (c 1) (by omega)) (fun z => h97 (c 0) (by omega)))
end
theorem nw_dc (p : Int32) : ∃ k : Nat, k ≤ 20 ∧ (p = nI k ∨ ((p < 0 ∨ ¬ p ≤ 20) ∧ k = 0)) := by
  by_cases h : p < 0
  · exact ⟨0, by omega, Or.inr ⟨Or.inl h, rfl⟩⟩
  · by_cases h2 : p ≤ 20
    · obtain ⟨j, hj, e⟩ := nI_of2 (M := 20) (n := 20) (by decide) h h2
      exact ⟨j, hj, Or.inl e⟩
    · exact ⟨0, by omega, Or.inr ⟨Or.inr h2, rfl⟩⟩
theorem nw_lcost {post : Int32 → Prop} {p : Int32} {k : Nat} (hk : k ≤ 20) (h : p = nI k ∨ ((p < 0 ∨ ¬ p ≤ 20) ∧ k = 0)) (H : post (nI k)) : wpL_cost post () p := by
  rcases h with h | ⟨h, h0⟩
  · subst h
    exact br_f (nI_pos (by omega)) (br_t (nI_le (b := 20) hk (by omega)) H)
  · subst h0
    refine br_c (fun _ => H) (fun z => br_c (fun z2 => ?_) (fun _ => H))
    rcases h with h | h
    · exact absurd h z
    · exact absurd z2 h
theorem nw_bad {k : Nat} {p : Int32} (h : (p < 0 ∨ ¬ p ≤ 20) ∧ k = 0) : ¬ nI k = p := by
  obtain ⟨h1, h2⟩ := h
  subst h2
  intro e
  subst e
  rcases h1 with h | h
  · exact absurd h (by decide)
  · exact absurd (show (nI 0 : Int32) ≤ 20 by decide) h
section
variable {fl fo be : Int32} {a1 a2 a3 a4 a5 a6 a7 a8 a9 a10 a11 : Nat → Int32}
theorem nw_cost {post : Int32 → St2 → Prop} {x b k : Nat} {c : Nat → Nat} {p0 p1 p2 : Int32} (hx : x < 6) (hp0 : p0 = nI x) (hb : b < 3) (hp1 : p1 = nI b) (hk : k ≤ 20) (h : p2 = nI k ∨ ((p2 < 0 ∨ ¬ p2 ≤ 20) ∧ k = 0)) (h1 : nw_cst x c a1) (hcb : c b = 0)
    (H : ∀ (r : Int32) (c1 : Nat → Int32), r = (if nI k = p2 then 0 else -3) → nw_cst x (fun a => if a = b then k else c a) c1 → post r (0, 0, fl, fo, be, c1, a2, a3, a4, a5, a6, a7, a8, a9, a10, a11)) : wpX_cost post (0, 0, fl, fo, be, a1, a2, a3, a4, a5, a6, a7, a8, a9, a10, a11) p0 p1 p2 := by
  subst hp0 hp1
  unfold wpX_cost
  dsimp only
  refine nw_bv x hx rfl (br_t rfl (br_f (nI_pos (by omega)) (pk_lt b 3 (fun _ => ?_) (fun z => absurd z (by omega)))))
  rw [nw_i3, nI_clamp (show x * 3 + b < 2 ^ 31 by omega)]
  rcases h with h | h
  · subst h
    refine br_f (nI_pos (by omega)) (br_t (nI_le (b := 20) hk (by omega)) (br_t rfl ⟨pk_in (x * 3 + b) 18 (by omega), nm_e ⟨pk_in (x * 3 + b) 18 (by omega), nm_e (H _ _ ?_ ?_)⟩⟩))
    · rw [if_pos rfl, h1 x b hx hb, if_pos rfl, hcb]
      rfl
    · intro v a hv ha
      by_cases e : v = x
      · subst e
        dsimp only
        rw [if_pos rfl]
        by_cases e2 : a = b
        · subst e2
          rw [pk_us, if_pos rfl]
        · rw [pk_un (by omega), h1 v a hv ha, if_pos rfl, if_neg e2]
      · rw [pk_un (by omega), h1 v a hv ha, if_neg e, if_neg e]
  · have hr : ∀ r : Int32, r = -3 → post r (0, 0, fl, fo, be, a1, a2, a3, a4, a5, a6, a7, a8, a9, a10, a11) := by
      intro r hr
      refine H r a1 ?_ ?_
      · rw [if_neg (nw_bad h)]
        exact hr
      · intro v a hv ha
        rw [h1 v a hv ha]
        congr 1
        dsimp only
        by_cases e : a = b
        · rw [if_pos e, e, hcb, h.2]
        · rw [if_neg e]
    refine br_c (fun _ => br_f (by decide) (hr _ rfl)) (fun z => br_c (fun z2 => ?_) (fun _ => br_f (by decide) (hr _ rfl)))
    rcases h.1 with g | g
    · exact absurd g z
    · exact absurd z2 g
end
theorem nw_K_of {x : Nat} {c c' : Nat → Nat} {fl : Int32} {a1 a5 : Nat → Int32} (h : nw_cst x c a1) (e : ∀ a, a < 3 → c' a = c a) : nw_K x c' 0 fl a1 a5 := by
  refine ⟨fun v a hv ha => ?_, Or.inl rfl⟩
  rw [h v a hv ha, e a ha]
theorem nw_lawOf {post : Int32 → St0 → Prop} {p0 p1 p2 p3 p4 : Int32} (H : post 1 ()) : wpL_lawOf post 12 243 () p0 p1 p2 p3 p4 := by
  unfold wpL_lawOf
  refine ⟨by omega, by omega, 11, 227, by omega, by omega, ?_⟩
  unfold wpX_init
  dsimp only
  refine ⟨by omega, by omega, by omega, by omega, by omega, by omega, by omega, by omega, by omega, by omega, by omega, by omega, by omega, by omega, by omega, by omega, by omega, by omega, by omega, by omega, by omega, by omega, ?_⟩
  refine ⟨by decide, ?_⟩
  obtain ⟨j, hj, ej⟩ := pk_andE p0 (m := 1023) 10 (by decide)
  rw [ej]
  refine nm_r (pk_rem (d := 6) (by omega) (by omega) (by omega)) ?_
  obtain ⟨kp, hp, ep⟩ := nw_dc p1
  obtain ⟨kq, hq, eq⟩ := nw_dc p2
  obtain ⟨kr, hr, er⟩ := nw_dc p3
  refine nw_lcost hp ep (nw_lcost hq eq (nw_lcost hr er ?_))
  have hx : j % 6 < 6 := by omega
  refine nw_cost (x := j % 6) (b := 0) (c := fun _ => 0) hx rfl (by omega) rfl hp ep (fun v a _ _ => by dsimp only; split <;> rfl) rfl (fun r0 c1 _ h1 => ?_)
  dsimp only
  refine nw_cost (x := j % 6) (b := 1) hx rfl (by omega) rfl hq eq h1 rfl (fun r1 c2 _ h2 => ?_)
  dsimp only
  refine nw_cost (x := j % 6) (b := 2) hx rfl (by omega) rfl hr er h2 rfl (fun r2 c3 e3 h3 => ?_)
  dsimp only
  have hc : ∀ a, a < 3 → (fun a => if a = 0 then kp else if a = 1 then kq else kr) a ≤ 20 := by
    intro a ha
    dsimp only
    split
    · exact hp
    · split
      · exact hq
      · exact hr
  have hK : ∀ (fl : Int32) (a5 : Nat → Int32), nw_K (j % 6) (fun a => if a = 0 then kp else if a = 1 then kq else kr) 0 fl c3 a5 := by
    intro fl a5
    refine nw_K_of h3 (fun a ha => ?_)
    have h3 : a = 0 ∨ a = 1 ∨ a = 2 := by omega
    rcases h3 with rfl | rfl | rfl <;> rfl
  refine br_c (fun z => ?_) (fun z => ?_)
  · rw [if_pos z] at e3
    exact nw_l78 (c := fun a => if a = 0 then kp else if a = 1 then kq else kr) hx hc H (hK _ _) e3
  · rw [if_neg z] at e3
    exact nw_l78 (c := fun a => if a = 0 then kp else if a = 1 then kq else kr) hx hc H (hK _ _) e3
theorem nw_cell {post : Int32 → Prop} {L : Nat} {xs : Nat → Int32} (i : Nat) {p : Int32} (hp : p = nI i) (hi : i < 5) (hL : L ≤ 5) (H : ∀ r, post r) : wpL_cellAt post L xs () p := by
  subst hp
  exact pk_le L i (fun _ => H _) (fun z => ⟨pk_in i L z, H _⟩)
theorem i_vc (xs : Nat → Int32) (L : Nat) (hL : L ≤ 5) : wpL_law (fun r => r = 1) L xs := by
  unfold wpL_law
  refine nw_cell 0 rfl (by omega) hL (fun r1 => nw_cell 1 rfl (by omega) hL (fun r2 => nw_cell 2 rfl (by omega) hL (fun r3 => nw_cell 3 rfl (by omega) hL (fun r4 => nw_cell 4 rfl (by omega) hL (fun r5 => ?_)))))
  exact ⟨12, 243, by omega, by omega, nw_lawOf rfl⟩
end
