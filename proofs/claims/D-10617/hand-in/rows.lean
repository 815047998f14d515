section
def sg_up {α : Type} (f : Nat → α) (k : Nat) (x : α) : Nat → α := fun j => if j = k then x else f j
theorem sg_us {α : Type} {f : Nat → α} {k : Nat} {x : α} : sg_up f k x k = x := if_pos rfl
theorem sg_un {α : Type} {f : Nat → α} {k j : Nat} {x : α} (h : j ≠ k) : sg_up f k x j = f j := if_neg h
theorem sg_usame {f : Nat → Int32} {k : Nat} {v : Int32} (h : f k = v) : upd f k v = f := by
  funext j
  by_cases e : j = k
  · rw [e, pk_us, h]
  · rw [pk_un e]
theorem sg_uu {f : Nat → Int32} {k : Nat} {v w : Int32} : upd (upd f k v) k w = upd f k w := by
  funext j
  by_cases e : j = k
  · rw [e, pk_us, pk_us]
  · rw [pk_un e, pk_un e, pk_un e]
theorem sg_sh : ∀ l, l < 512 → (nI l).toInt16.toInt32 = nI l := by decide +kernel
theorem sg_by : ∀ l, l < 16 → (nI l).toInt8.toInt32 = nI l := by decide +kernel
theorem sg_K9 {K : Nat} (h2 : 2 ≤ K) (h8 : K ≤ 8) : ¬ nI K = 9 := fun e => by
  have := (nI_eq (a := K) (b := 9) (by omega) (by omega)).mp e
  omega
theorem sg_K10 {K : Nat} (h2 : 2 ≤ K) (h8 : K ≤ 8) : ¬ nI K = 10 := fun e => by
  have := (nI_eq (a := K) (b := 10) (by omega) (by omega)).mp e
  omega
theorem sg_K0 {K : Nat} (h2 : 2 ≤ K) (h8 : K ≤ 8) : ¬ nI K = 0 := fun e => by
  have := (nI_eq (a := K) (b := 0) (by omega) (by omega)).mp e
  omega
theorem sg_09 : ¬ (0 : Int32) = 9 := by decide
theorem sg_90 : ¬ (9 : Int32) = 0 := by decide
theorem sg_010 : ¬ (0 : Int32) = 10 := by decide
theorem sg_910 : ¬ (9 : Int32) = 10 := by decide
/-- the heap and its ghosts: f x the stream that node x stands for, dep x its depth in its own chain, t i the suspended node of chain i, n i its depth -/
def sg_Inv (K s top : Nat) (a4 a5 a6 a7 a8 : Nat → Int32) (f : Nat → Nat → Int32) (dep t n : Nat → Nat) : Prop :=
  (2 ≤ K ∧ K ≤ 8 ∧ s < 6 ∧ 6 ≤ top) ∧
  (∀ x, x < top → a4 x = 0 ∨ a4 x = 9 ∨ a4 x = 10 ∨ a4 x = nI K) ∧
  (∀ x, x < top → a4 x = 9 → ∃ l, a7 x = nI l ∧ l < top ∧ a5 x = f x 0 ∧ (∀ j, f l j = f x (j + 1)) ∧ dep l ≤ dep x + 1 ∧ (K = 2 → l ≠ s)) ∧
  (∀ x, x < top → a4 x = 0 → ∀ j, f x j = a5 x + nI j * a6 x) ∧
  (∀ x, x < top → a4 x = 0 ∨ a4 x = nI K → ∃ i, i < 6 ∧ t i = x ∧ n i = dep x) ∧
  (∀ x, x < top → a4 x = 10 → K = 2 ∧ x = s ∧ ∃ c, a7 x = nI c ∧ c < top ∧ a4 c = 9 ∧ (∀ j, f c j = f x j) ∧ dep c ≤ 1) ∧
  (∀ x, x < top → a4 x = nI K → ∃ l r, a7 x = nI l ∧ a8 x = nI r ∧ l < top ∧ l ≠ x ∧ dep l ≤ dep x ∧ r < top ∧ (K = 3 ∨ K = 4 ∨ K = 7 ∨ K = 8 → dep r ≤ dep x) ∧ (K = 3 ∨ K = 4 ∨ K = 8 → r ≠ x) ∧ (K = 6 → a5 x = 0) ∧ (K = 2 → x = s) ∧ (∀ z j, f z j = 0) ∧ (∀ y, y < top → a4 y = nI K → y = x)) ∧
  dep s = 0 ∧ top = 6 + n 0 + n 1 + n 2 + n 3 + n 4 + n 5 ∧ (∀ i, i < 6 → n i ≤ 17)
theorem sg_top {K s top : Nat} {a4 a5 a6 a7 a8 : Nat → Int32} {f : Nat → Nat → Int32} {dep t n : Nat → Nat}
    (h : sg_Inv K s top a4 a5 a6 a7 a8 f dep t n) : top ≤ 108 := by
  obtain ⟨_, _, _, _, _, _, _, _, e, b⟩ := h
  have := b 0 (by omega)
  have := b 1 (by omega)
  have := b 2 (by omega)
  have := b 3 (by omega)
  have := b 4 (by omega)
  have := b 5 (by omega)
  omega
theorem sg_sum {n : Nat → Nat} {i top : Nat} (hi : i < 6) (h : top = 6 + n 0 + n 1 + n 2 + n 3 + n 4 + n 5) :
    top + 1 = 6 + sg_up n i (n i + 1) 0 + sg_up n i (n i + 1) 1 + sg_up n i (n i + 1) 2 + sg_up n i (n i + 1) 3 + sg_up n i (n i + 1) 4 + sg_up n i (n i + 1) 5 := by
  have c : i = 0 ∨ i = 1 ∨ i = 2 ∨ i = 3 ∨ i = 4 ∨ i = 5 := by omega
  rcases c with rfl | rfl | rfl | rfl | rfl | rfl
  all_goals
    simp only [sg_up]
    simp
    omega
/-- a suspended node x becomes a cell, with a new suspended node of its own kind behind it -/
theorem sg_fin {K s top x : Nat} {a4 a5 a6 a7 a8 b4 b5 b6 b7 b8 : Nat → Int32} {f : Nat → Nat → Int32} {dep t n : Nat → Nat}
    (h : sg_Inv K s top a4 a5 a6 a7 a8 f dep t n) (hx : x < top) (hd : dep x ≤ 16)
    (hs : a4 x = 0 ∨ (a4 x = nI K ∧ K ≠ 2))
    (o : ∀ z, z < top → z ≠ x → b4 z = a4 z ∧ b5 z = a5 z ∧ b6 z = a6 z ∧ b7 z = a7 z ∧ b8 z = a8 z)
    (x4 : b4 x = 9) (x5 : b5 x = f x 0) (x7 : b7 x = nI top) (n4 : b4 top = a4 x)
    (nc : a4 x = 0 → b5 top = a5 x + a6 x ∧ b6 top = a6 x)
    (nk : a4 x = nI K → ∃ l r, b7 top = nI l ∧ b8 top = nI r ∧ l < top ∧ r < top ∧ dep l ≤ dep x + 1 ∧ (K = 3 ∨ K = 4 ∨ K = 7 ∨ K = 8 → dep r ≤ dep x + 1) ∧ (K = 6 → b5 top = 0)) :
    ∃ t' n', sg_Inv K s (top + 1) b4 b5 b6 b7 b8 (sg_up f top (fun j => f x (j + 1))) (sg_up dep top (dep x + 1)) t' n' := by
  obtain ⟨⟨k2, k8, s6, t6⟩, c1, c2, c3, c4, c5, c6, c7, c8, c9⟩ := h
  obtain ⟨i, i6, ti, ni⟩ := c4 x hx (hs.imp id (fun e => e.1))
  have F : ∀ z, z < top → sg_up f top (fun j => f x (j + 1)) z = f z := fun z hz => sg_un (by omega)
  have D : ∀ z, z < top → sg_up dep top (dep x + 1) z = dep z := fun z hz => sg_un (by omega)
  have x9 : ¬ a4 x = 9 := by
    intro e
    rcases hs with q | q
    · rw [q] at e
      exact sg_09 e
    · rw [q.1] at e
      exact sg_K9 k2 k8 e
  have x10 : ¬ a4 x = 10 := by
    intro e
    rcases hs with q | q
    · rw [q] at e
      exact sg_010 e
    · rw [q.1] at e
      exact sg_K10 k2 k8 e
  refine ⟨sg_up t i top, sg_up n i (n i + 1), ⟨k2, k8, s6, by omega⟩, ?_, ?_, ?_, ?_, ?_, ?_, ?_, sg_sum i6 c8, ?_⟩
  · intro z hz
    by_cases e : z = top
    · rw [e, n4]
      rcases hs with q | q
      · exact Or.inl q
      · exact Or.inr (Or.inr (Or.inr q.1))
    · by_cases e' : z = x
      · rw [e']
        exact Or.inr (Or.inl x4)
      · rw [(o z (by omega) e').1]
        exact c1 z (by omega)
  · intro z hz e9
    by_cases e : z = top
    · rw [e, n4] at e9
      exact absurd e9 x9
    · by_cases e' : z = x
      · rw [e']
        exact ⟨top, x7, by omega, by rw [x5, F x hx], fun j => by rw [sg_us, F x hx], by rw [sg_us, D x hx]; omega, fun _ => by omega⟩
      · have hz' : z < top := by omega
        obtain ⟨o4, o5, o6, o7, o8⟩ := o z hz' e'
        rw [o4] at e9
        obtain ⟨l, l7, lt, l5, lf, ld, ls⟩ := c2 z hz' e9
        exact ⟨l, by rw [o7, l7], by omega, by rw [o5, l5, F z hz'], fun j => by rw [F l lt, F z hz', lf j], by rw [D l lt, D z hz']; exact ld, ls⟩
  · intro z hz e0 j
    by_cases e : z = top
    · rw [e, n4] at e0
      rw [e, sg_us, (nc e0).1, (nc e0).2]
      show f x (j + 1) = a5 x + a6 x + nI j * a6 x
      rw [c3 x hx e0 (j + 1), nI_succ]
      grind
    · by_cases e' : z = x
      · rw [e', x4] at e0
        exact absurd e0 sg_90
      · have hz' : z < top := by omega
        obtain ⟨o4, o5, o6, o7, o8⟩ := o z hz' e'
        rw [o4] at e0
        rw [F z hz', o5, o6]
        exact c3 z hz' e0 j
  · intro z hz e0
    by_cases e : z = top
    · exact ⟨i, i6, by rw [sg_us, e], by rw [e, sg_us, sg_us, ni]⟩
    · by_cases e' : z = x
      · rw [e', x4] at e0
        rcases e0 with q | q
        · exact absurd q sg_90
        · exact absurd q.symm (sg_K9 k2 k8)
      · have hz' : z < top := by omega
        rw [(o z hz' e').1] at e0
        obtain ⟨i', i6', ti', ni'⟩ := c4 z hz' e0
        have hi : i' ≠ i := by
          intro q
          rw [q] at ti'
          omega
        exact ⟨i', i6', by rw [sg_un hi, ti'], by rw [sg_un hi, D z hz', ni']⟩
  · intro z hz e10
    by_cases e : z = top
    · rw [e, n4] at e10
      exact absurd e10 x10
    · by_cases e' : z = x
      · rw [e', x4] at e10
        exact absurd e10 sg_910
      · have hz' : z < top := by omega
        obtain ⟨o4, o5, o6, o7, o8⟩ := o z hz' e'
        rw [o4] at e10
        obtain ⟨kk, zs, c, q7, qt, q4, qf, qd⟩ := c5 z hz' e10
        have cx : c ≠ x := by
          intro q
          rw [q] at q4
          exact x9 q4
        exact ⟨kk, zs, c, by rw [o7, q7], by omega, by rw [(o c qt cx).1, q4], fun j => by rw [F c qt, F z hz', qf j], by rw [D c qt]; exact qd⟩
  · intro z hz eK
    by_cases e : z = top
    · rw [e, n4] at eK
      have kn : K ≠ 2 := by
        rcases hs with q | q
        · rw [q] at eK
          exact absurd eK.symm (sg_K0 k2 k8)
        · exact q.2
      obtain ⟨l, r, q7, q8, lt, rt, dl, dr, q6⟩ := nk eK
      obtain ⟨_, _, _, _, _, _, _, _, _, _, _, _, fz, un⟩ := c6 x hx eK
      rw [e]
      refine ⟨l, r, q7, q8, by omega, by omega, by rw [D l lt, sg_us]; exact dl, by omega, fun g => by rw [D r rt, sg_us]; exact dr g, fun _ => by omega, q6, fun g => absurd g kn, fun w j => ?_, fun y hy ey => ?_⟩
      · by_cases g : w = top
        · rw [g, sg_us]
          exact fz x (j + 1)
        · rw [sg_un g]
          exact fz w j
      · by_cases g : y = top
        · exact g
        · by_cases g' : y = x
          · rw [g', x4] at ey
            exact absurd ey.symm (sg_K9 k2 k8)
          · rw [(o y (by omega) g').1] at ey
            exact absurd (un y (by omega) ey) g'
    · by_cases e' : z = x
      · rw [e', x4] at eK
        exact absurd eK.symm (sg_K9 k2 k8)
      · have hz' : z < top := by omega
        obtain ⟨o4, o5, o6, o7, o8⟩ := o z hz' e'
        rw [o4] at eK
        obtain ⟨l, r, q7, q8, lt, lx, dl, rt, dr, rx, q6, q2, fz, un⟩ := c6 z hz' eK
        have xK : ¬ a4 x = nI K := fun g => e' (un x hx g).symm
        refine ⟨l, r, by rw [o7, q7], by rw [o8, q8], by omega, lx, by rw [D l lt, D z hz']; exact dl, by omega, fun g => by rw [D r rt, D z hz']; exact dr g, rx, fun g => by rw [o5]; exact q6 g, q2, fun w j => ?_, fun y hy ey => ?_⟩
        · by_cases g : w = top
          · rw [g, sg_us]
            exact fz x (j + 1)
          · rw [sg_un g]
            exact fz w j
        · by_cases g : y = top
          · rw [g, n4] at ey
            exact absurd ey xK
          · by_cases g' : y = x
            · rw [g', x4] at ey
              exact absurd ey.symm (sg_K9 k2 k8)
            · rw [(o y (by omega) g').1] at ey
              exact un y (by omega) ey
  · rw [D s (by omega)]
    exact c7
  · intro j hj
    by_cases e : j = i
    · rw [e, sg_us]
      omega
    · rw [sg_un e]
      exact c9 j hj
/-- TAIL at s becomes a link -/
theorem sg_finT {s top c : Nat} {a4 a5 a6 a7 a8 : Nat → Int32} {f : Nat → Nat → Int32} {dep t n : Nat → Nat}
    (h : sg_Inv 2 s top a4 a5 a6 a7 a8 f dep t n) (hx : a4 s = 2) (hc : c < top) (h4 : a4 c = 9) (hd : dep c ≤ 1) :
    sg_Inv 2 s top (upd a4 s 10) a5 a6 (upd a7 s (nI c)) a8 f dep t n := by
  obtain ⟨⟨k2, k8, s6, t6⟩, c1, c2, c3, c4, c5, c6, c7, c8, c9⟩ := h
  have st : s < top := by omega
  have cs : c ≠ s := by
    intro q
    rw [q, hx] at h4
    exact absurd h4 (by decide)
  obtain ⟨_, _, _, _, _, _, _, _, _, _, _, _, fz, un⟩ := c6 s st hx
  refine ⟨⟨k2, k8, s6, t6⟩, ?_, ?_, ?_, ?_, ?_, ?_, c7, c8, c9⟩
  · intro z hz
    by_cases e : z = s
    · rw [e, pk_us]
      exact Or.inr (Or.inr (Or.inl rfl))
    · rw [pk_un e]
      exact c1 z hz
  · intro z hz q
    by_cases e : z = s
    · rw [e, pk_us] at q
      exact absurd q (by decide)
    · rw [pk_un e] at q
      rw [pk_un e]
      exact c2 z hz q
  · intro z hz q
    by_cases e : z = s
    · rw [e, pk_us] at q
      exact absurd q (by decide)
    · rw [pk_un e] at q
      exact c3 z hz q
  · intro z hz q
    by_cases e : z = s
    · rw [e, pk_us] at q
      rcases q with q | q
      · exact absurd q (by decide)
      · exact absurd q (by decide)
    · rw [pk_un e] at q
      exact c4 z hz q
  · intro z hz q
    by_cases e : z = s
    · rw [e]
      exact ⟨rfl, rfl, c, pk_us, hc, by rw [pk_un cs, h4], fun j => by rw [fz, fz], hd⟩
    · rw [pk_un e] at q
      exact absurd (c5 z hz q).2.1 e
  · intro z hz q
    by_cases e : z = s
    · rw [e, pk_us] at q
      exact absurd q (by decide)
    · rw [pk_un e] at q
      exact absurd (un z hz q) e
end
section
section
variable {b0 b1 b2 b3 : Int32} {a1 a2 a3 a4 a5 a6 a7 a8 a9 a10 a11 a12 : Nat → Int32}
theorem sg_follow {post : Int32 → Prop} {x : Nat} (hx : x < 512) (h : ¬ a4 x = 10) (H : post (nI x)) :
    wpX_follow post (b0, b1, b2, b3, a1, a2, a3, a4, a5, a6, a7, a8, a9, a10, a11, a12) (nI x) :=
  ⟨1, pk_in x 512 hx, br_f (by rw [nI_clamp (by omega)]; exact h) H⟩
theorem sg_follow10 {post : Int32 → Prop} {x c : Nat} (hx : x < 512) (h : a4 x = 10) (h7 : a7 x = nI c) (hc : c < 512) (h4 : ¬ a4 c = 10) (H : post (nI c)) :
    wpX_follow post (b0, b1, b2, b3, a1, a2, a3, a4, a5, a6, a7, a8, a9, a10, a11, a12) (nI x) :=
  ⟨2, pk_in x 512 hx, br_t (by rw [nI_clamp (by omega)]; exact h) ⟨pk_in x 512 hx, nm_r (e' := nI c) (by rw [nI_clamp (by omega)]; exact h7) ⟨pk_in c 512 hc, br_f (by rw [nI_clamp (by omega)]; exact h4) H⟩⟩⟩
theorem sg_alloc {post : Int32 → St2 → Prop} {top : Nat} {p0 p1 p2 p3 p4 q0 q3 q4 : Int32} (ht : top < 512)
    (e0 : p0.toInt8.toInt32 = q0) (e3 : p3.toInt16.toInt32 = q3) (e4 : p4.toInt16.toInt32 = q4)
    (H : post (nI top) (b0, b1, nI (top + 1), b3, a1, a2, a3, upd a4 top q0, upd a5 top p1, upd a6 top p2, upd a7 top q3, upd a8 top q4, upd a9 top 0, a10, a11, a12)) :
    wpX_allocate post (b0, b1, nI top, b3, a1, a2, a3, a4, a5, a6, a7, a8, a9, a10, a11, a12) p0 p1 p2 p3 p4 := by
  have hi : vp_in (nI top) 512 := pk_in top 512 ht
  unfold wpX_allocate
  dsimp only
  rw [nI_clamp (by omega), e0, e3, e4]
  exact nm_r (nI_1 top) ⟨hi, nm_e ⟨hi, nm_e ⟨hi, nm_e ⟨hi, nm_e ⟨hi, nm_e ⟨hi, nm_e H⟩⟩⟩⟩⟩⟩
theorem sg_push {post : St2 → Prop} {sp w : Nat} (hs : sp < 16) (hw : w < 512)
    (H : post (b0, b1, b2, nI (sp + 1), a1, a2, a3, a4, a5, a6, a7, a8, a9, a10, a11, upd a12 sp (nI w))) :
    wpX_push post (b0, b1, b2, nI sp, a1, a2, a3, a4, a5, a6, a7, a8, a9, a10, a11, a12) (nI w) := by
  unfold wpX_push
  dsimp only
  rw [nI_clamp (by omega), sg_sh w hw]
  exact ⟨pk_in sp 16 hs, nm_e (nm_r (nI_1 sp) H)⟩
/-! wantedBy -/
theorem sg_wb0 {post : Int32 → St2 → Prop} {x : Nat} (hx : x < 512) (h4 : a4 x = 0)
    (H : post (-1) (b0, b1, b2, b3, a1, a2, a3, a4, a5, a6, a7, a8, a9, a10, a11, a12)) :
    wpX_wantedBy post (b0, b1, b2, b3, a1, a2, a3, a4, a5, a6, a7, a8, a9, a10, a11, a12) (nI x) := by
  unfold wpX_wantedBy
  dsimp only
  rw [nI_clamp (by omega)]
  exact ⟨pk_in x 512 hx, nm_r h4 (br_t rfl H)⟩
theorem sg_wbl {post : Int32 → St2 → Prop} {x l : Nat} (hx : x < 512) (hl : l < 512) (h4 : ¬ a4 x = 0) (h7 : a7 x = nI l) (e9 : ¬ a4 l = 9) (e10 : ¬ a4 l = 10)
    (H : post (nI l) (b0, b1, b2, b3, a1, a2, a3, a4, a5, a6, a7, a8, a9, a10, a11, a12)) :
    wpX_wantedBy post (b0, b1, b2, b3, a1, a2, a3, a4, a5, a6, a7, a8, a9, a10, a11, a12) (nI x) := by
  have hi : vp_in (nI x) 512 := pk_in x 512 hx
  unfold wpX_wantedBy
  dsimp only
  rw [nI_clamp (by omega), h7]
  exact ⟨hi, nm_e (br_f h4 ⟨hi, sg_follow hl e10 ⟨hi, nm_r (e' := a7) (by rw [sg_sh l hl]; exact sg_usame h7) ⟨pk_in l 512 hl, br_f (by rw [nI_clamp (by omega)]; exact e9) H⟩⟩⟩)⟩
theorem sg_w99 {post : Int32 → St2 → Prop} {x r : Nat} (hx : x < 512) (hr : r < 512) (h8 : a8 x = nI r) (e10 : ¬ a4 r = 10)
    (H : a4 r = 9 → post (-1) (b0, b1, b2, b3, a1, a2, a3, a4, a5, a6, a7, a8, a9, a10, a11, a12))
    (H' : ¬ a4 r = 9 → post (nI r) (b0, b1, b2, b3, a1, a2, a3, a4, a5, a6, a7, a8, a9, a10, a11, a12)) :
    wX_wantedBy_99 post (nI x) b0 b1 b2 b3 a1 a2 a3 a4 a5 a6 a7 a8 a9 a10 a11 a12 := by
  have hi : vp_in (nI x) 512 := pk_in x 512 hx
  unfold wX_wantedBy_99
  rw [nI_clamp (by omega), h8]
  exact ⟨hi, sg_follow hr e10 ⟨hi, nm_r (e' := a8) (by rw [sg_sh r hr]; exact sg_usame h8) ⟨pk_in r 512 hr, by rw [nI_clamp (by omega)]; exact br_c H H'⟩⟩⟩
theorem sg_wb2 {post : Int32 → St2 → Prop} {x l c : Nat} (hx : x < 512) (hl : l < 512) (hc : c < 512) (h4 : a4 x = 2) (h7 : a7 x = nI l) (e9 : a4 l = 9) (l7 : a7 l = nI c) (e10 : ¬ a4 c = 10)
    (H : a4 c = 9 → post (-1) (b0, b1, b2, b3, a1, a2, a3, a4, a5, a6, a7, a8, a9, a10, a11, a12))
    (H' : ¬ a4 c = 9 → post (nI c) (b0, b1, b2, b3, a1, a2, a3, a4, a5, a6, a7, a8, a9, a10, a11, a12)) :
    wpX_wantedBy post (b0, b1, b2, b3, a1, a2, a3, a4, a5, a6, a7, a8, a9, a10, a11, a12) (nI x) := by
  have hi : vp_in (nI x) 512 := pk_in x 512 hx
  have hil : vp_in (nI l) 512 := pk_in l 512 hl
  unfold wpX_wantedBy
  dsimp only
  rw [nI_clamp (by omega), h7]
  refine ⟨hi, nm_r h4 (br_f (by decide) ⟨hi, sg_follow hl (by rw [e9]; decide) ⟨hi, nm_r (e' := a7) (by rw [sg_sh l hl]; exact sg_usame h7) ⟨hil, br_t (by rw [nI_clamp (by omega)]; exact e9) (br_t rfl ⟨hil, ?_⟩)⟩⟩⟩)⟩
  rw [nI_clamp (by omega), l7]
  exact sg_follow hc e10 ⟨pk_in c 512 hc, by rw [nI_clamp (by omega)]; exact br_c H H'⟩
theorem sg_wb3 {post : Int32 → St2 → Prop} {x l r : Nat} (hx : x < 512) (hl : l < 512) (hr : r < 512) (h4 : a4 x = 3 ∨ a4 x = 4 ∨ a4 x = 8) (h7 : a7 x = nI l) (e9 : a4 l = 9) (h8 : a8 x = nI r) (e10 : ¬ a4 r = 10)
    (H : a4 r = 9 → post (-1) (b0, b1, b2, b3, a1, a2, a3, a4, a5, a6, a7, a8, a9, a10, a11, a12))
    (H' : ¬ a4 r = 9 → post (nI r) (b0, b1, b2, b3, a1, a2, a3, a4, a5, a6, a7, a8, a9, a10, a11, a12)) :
    wpX_wantedBy post (b0, b1, b2, b3, a1, a2, a3, a4, a5, a6, a7, a8, a9, a10, a11, a12) (nI x) := by
  have hi : vp_in (nI x) 512 := pk_in x 512 hx
  have hil : vp_in (nI l) 512 := pk_in l 512 hl
  unfold wpX_wantedBy
  dsimp only
  rw [nI_clamp (by omega), h7]
  rcases h4 with h4 | h4 | h4
  · exact ⟨hi, nm_r h4 (br_f (by decide) ⟨hi, sg_follow hl (by rw [e9]; decide) ⟨hi, nm_r (e' := a7) (by rw [sg_sh l hl]; exact sg_usame h7) ⟨hil, br_t (by rw [nI_clamp (by omega)]; exact e9) (br_f (by decide) (br_t rfl (sg_w99 hx hr h8 e10 H H')))⟩⟩⟩)⟩
  · exact ⟨hi, nm_r h4 (br_f (by decide) ⟨hi, sg_follow hl (by rw [e9]; decide) ⟨hi, nm_r (e' := a7) (by rw [sg_sh l hl]; exact sg_usame h7) ⟨hil, br_t (by rw [nI_clamp (by omega)]; exact e9) (br_f (by decide) (br_f (by decide) (br_t rfl (sg_w99 hx hr h8 e10 H H'))))⟩⟩⟩)⟩
  · exact ⟨hi, nm_r h4 (br_f (by decide) ⟨hi, sg_follow hl (by rw [e9]; decide) ⟨hi, nm_r (e' := a7) (by rw [sg_sh l hl]; exact sg_usame h7) ⟨hil, br_t (by rw [nI_clamp (by omega)]; exact e9) (br_f (by decide) (br_f (by decide) (br_f (by decide) (br_t rfl (sg_w99 hx hr h8 e10 H H')))))⟩⟩⟩)⟩
theorem sg_wb5 {post : Int32 → St2 → Prop} {x l : Nat} (hx : x < 512) (hl : l < 512) (h4 : a4 x = 5 ∨ a4 x = 6 ∨ a4 x = 7) (h7 : a7 x = nI l) (e9 : a4 l = 9)
    (H : post (-1) (b0, b1, b2, b3, a1, a2, a3, a4, a5, a6, a7, a8, a9, a10, a11, a12)) :
    wpX_wantedBy post (b0, b1, b2, b3, a1, a2, a3, a4, a5, a6, a7, a8, a9, a10, a11, a12) (nI x) := by
  have hi : vp_in (nI x) 512 := pk_in x 512 hx
  have hil : vp_in (nI l) 512 := pk_in l 512 hl
  unfold wpX_wantedBy
  dsimp only
  rw [nI_clamp (by omega), h7]
  rcases h4 with h4 | h4 | h4
  all_goals exact ⟨hi, nm_r h4 (br_f (by decide) ⟨hi, sg_follow hl (by rw [e9]; decide) ⟨hi, nm_r (e' := a7) (by rw [sg_sh l hl]; exact sg_usame h7) ⟨hil, br_t (by rw [nI_clamp (by omega)]; exact e9) (br_f (by decide) (br_f (by decide) (br_f (by decide) (br_f (by decide) H))))⟩⟩⟩)⟩
/-! finish -/
theorem sg_f269 {post : St2 → Prop} {x r : Nat} {v : Int32} (hx : x < 512) (hr : r < 512)
    (H : post (b0, b1, b2, b3, a1, a2, a3, upd a4 x 9, upd a5 x v, a6, upd a7 x (nI r), a8, a9, a10, a11, a12)) :
    wX_finish_269 post (nI x) v (nI r) b0 b1 b2 b3 a1 a2 a3 a4 a5 a6 a7 a8 a9 a10 a11 a12 := by
  have hi : vp_in (nI x) 512 := pk_in x 512 hx
  unfold wX_finish_269
  rw [nI_clamp (by omega), sg_sh r hr]
  exact ⟨hi, nm_e ⟨hi, nm_e ⟨hi, nm_e H⟩⟩⟩
theorem sg_f0 {post : St2 → Prop} {x top : Nat} (hx : x < 512) (ht : top < 512) (h4 : a4 x = 0)
    (H : post (b0, b1, nI (top + 1), b3, a1, a2, a3, upd (upd a4 top 0) x 9, upd (upd a5 top (a5 x + a6 x)) x (a5 x), upd a6 top (a6 x), upd (upd a7 top 0) x (nI top), upd a8 top 0, upd (upd a9 x 0) top 0, a10, a11, a12)) :
    wpX_finish post (b0, b1, nI top, b3, a1, a2, a3, a4, a5, a6, a7, a8, a9, a10, a11, a12) (nI x) := by
  have hi : vp_in (nI x) 512 := pk_in x 512 hx
  unfold wpX_finish
  dsimp only
  rw [nI_clamp (show x < 2 ^ 31 by omega)]
  exact ⟨hi, nm_r h4 ⟨hi, nm_e (br_f (by decide) ⟨hi, nm_e ⟨hi, nm_e (br_t rfl ⟨hi, hi, hi, sg_alloc ht (by decide) (by decide) (by decide) (sg_f269 hx ht H)⟩)⟩⟩)⟩⟩
theorem sg_f2 {post : St2 → Prop} {x l c : Nat} (hx : x < 512) (hl : l < 512) (hc : c < 512) (h4 : a4 x = 2) (h7 : a7 x = nI l) (l7 : a7 l = nI c) (cx : c ≠ x) (e10 : ¬ a4 c = 10)
    (H : post (b0, b1, b2, b3, a1, a2, a3, upd a4 x 10, a5, a6, upd a7 x (nI c), a8, upd a9 x 0, a10, a11, a12)) :
    wpX_finish post (b0, b1, b2, b3, a1, a2, a3, a4, a5, a6, a7, a8, a9, a10, a11, a12) (nI x) := by
  have hi : vp_in (nI x) 512 := pk_in x 512 hx
  unfold wpX_finish
  dsimp only
  rw [nI_clamp (show x < 2 ^ 31 by omega), h7, nI_clamp (show l < 2 ^ 31 by omega), l7]
  exact ⟨hi, nm_r h4 ⟨hi, nm_e (br_t rfl ⟨hi, nm_e ⟨hi, pk_in l 512 hl, sg_follow hc (by rw [pk_un cx]; exact e10) ⟨hi, nm_r (e' := upd a7 x (nI c)) (by rw [sg_sh c hc]) H⟩⟩⟩)⟩⟩
theorem sg_f5 {post : St2 → Prop} {x l m top : Nat} (hx : x < 512) (hl : l < 512) (hm : m < 512) (ht : top < 512) (h4 : a4 x = 5) (h7 : a7 x = nI l) (l7 : a7 l = nI m)
    (H : post (b0, b1, nI (top + 1), b3, a1, a2, a3, upd (upd a4 top 5) x 9, upd (upd a5 top (a5 x)) x (a5 x * a5 l), upd a6 top 0, upd (upd a7 top (nI m)) x (nI top), upd a8 top 0, upd (upd a9 x 0) top 0, a10, a11, a12)) :
    wpX_finish post (b0, b1, nI top, b3, a1, a2, a3, a4, a5, a6, a7, a8, a9, a10, a11, a12) (nI x) := by
  have hi : vp_in (nI x) 512 := pk_in x 512 hx
  have hil : vp_in (nI l) 512 := pk_in l 512 hl
  unfold wpX_finish
  dsimp only
  rw [nI_clamp (show x < 2 ^ 31 by omega), h7]
  refine ⟨hi, nm_r h4 ⟨hi, nm_e (br_f (by decide) ⟨hi, nm_e ⟨hi, nm_e (br_f (by decide) (br_t rfl ⟨hi, hil, ?_⟩))⟩⟩)⟩⟩
  rw [nI_clamp (show l < 2 ^ 31 by omega), l7]
  exact nm_e ⟨hi, hil, sg_alloc ht (by decide) (sg_sh m hm) (by decide) (sg_f269 hx ht H)⟩
theorem sg_f6 {post : St2 → Prop} {x l m top : Nat} (hx : x < 512) (hl : l < 512) (hm : m < 512) (ht : top < 512) (h4 : a4 x = 6) (h7 : a7 x = nI l) (l7 : a7 l = nI m)
    (H : post (b0, b1, nI (top + 1), b3, a1, a2, a3, upd (upd a4 top 6) x 9, upd (upd a5 top (a5 x + a5 l)) x (a5 x + a5 l), upd a6 top 0, upd (upd a7 top (nI m)) x (nI top), upd a8 top 0, upd (upd a9 x 0) top 0, a10, a11, a12)) :
    wpX_finish post (b0, b1, nI top, b3, a1, a2, a3, a4, a5, a6, a7, a8, a9, a10, a11, a12) (nI x) := by
  have hi : vp_in (nI x) 512 := pk_in x 512 hx
  have hil : vp_in (nI l) 512 := pk_in l 512 hl
  unfold wpX_finish
  dsimp only
  rw [nI_clamp (show x < 2 ^ 31 by omega), h7]
  refine ⟨hi, nm_r h4 ⟨hi, nm_e (br_f (by decide) ⟨hi, nm_e ⟨hi, nm_e (br_f (by decide) (br_f (by decide) (br_t rfl ⟨hi, hil, ?_⟩)))⟩⟩)⟩⟩
  rw [nI_clamp (show l < 2 ^ 31 by omega), l7]
  exact nm_e ⟨hil, sg_alloc ht (by decide) (sg_sh m hm) (by decide) (sg_f269 hx ht H)⟩
theorem sg_f7 {post : St2 → Prop} {x l m r top : Nat} (hx : x < 512) (hl : l < 512) (hm : m < 512) (hr : r < 512) (ht : top < 512) (h4 : a4 x = 7) (h7 : a7 x = nI l) (l7 : a7 l = nI m) (h8 : a8 x = nI r)
    (H : post (b0, b1, nI (top + 1), b3, a1, a2, a3, upd (upd a4 top 7) x 9, upd (upd a5 top 0) x (a5 l), upd a6 top 0, upd (upd a7 top (nI r)) x (nI top), upd a8 top (nI m), upd (upd a9 x 0) top 0, a10, a11, a12)) :
    wpX_finish post (b0, b1, nI top, b3, a1, a2, a3, a4, a5, a6, a7, a8, a9, a10, a11, a12) (nI x) := by
  have hi : vp_in (nI x) 512 := pk_in x 512 hx
  have hil : vp_in (nI l) 512 := pk_in l 512 hl
  unfold wpX_finish
  dsimp only
  rw [nI_clamp (show x < 2 ^ 31 by omega), h7, h8]
  refine ⟨hi, nm_r h4 ⟨hi, nm_e (br_f (by decide) ⟨hi, nm_e ⟨hi, nm_e (br_f (by decide) (br_f (by decide) (br_f (by decide) (br_t rfl ⟨hil, ?_⟩))))⟩⟩)⟩⟩
  rw [nI_clamp (show l < 2 ^ 31 by omega), l7]
  exact nm_e ⟨hi, hil, sg_alloc ht (by decide) (sg_sh r hr) (sg_sh m hm) (sg_f269 hx ht H)⟩
theorem sg_r88 {post : Int32 → St2 → Prop} {top m q : Nat} {k k' : Int32} (ht : top < 512) (hm : m < 512) (hq : q < 512) (hk : k.toInt8.toInt32 = k')
    (H : post (nI top) (b0, b1, nI (top + 1), b3, a1, a2, a3, upd a4 top k', upd a5 top 0, upd a6 top 0, upd a7 top (nI m), upd a8 top (nI q), upd a9 top 0, a10, a11, a12)) :
    wX_restOfTwo_88 post k (nI m) (nI q) b0 b1 (nI top) b3 a1 a2 a3 a4 a5 a6 a7 a8 a9 a10 a11 a12 := by
  unfold wX_restOfTwo_88
  exact sg_alloc ht hk (sg_sh m hm) (sg_sh q hq) H
theorem sg_rest {post : Int32 → St2 → Prop} {top l r m q : Nat} {k k' : Int32} (ht : top < 512) (hl : l < 512) (hr : r < 512) (hm : m < 512) (hq : q < 512) (hk : k.toInt8.toInt32 = k') (l7 : a7 l = nI m) (r7 : a7 r = nI q) (le : ¬ a5 r < a5 l) (le' : ¬ a5 l < a5 r)
    (H : post (nI top) (b0, b1, nI (top + 1), b3, a1, a2, a3, upd a4 top k', upd a5 top 0, upd a6 top 0, upd a7 top (nI m), upd a8 top (nI q), upd a9 top 0, a10, a11, a12)) :
    wpX_restOfTwo post (b0, b1, nI top, b3, a1, a2, a3, a4, a5, a6, a7, a8, a9, a10, a11, a12) k (nI l) (nI r) := by
  have hil : vp_in (nI l) 512 := pk_in l 512 hl
  have hir : vp_in (nI r) 512 := pk_in r 512 hr
  have h71 : wX_restOfTwo_71 post k (nI r) 1 (nI m) b0 b1 (nI top) b3 a1 a2 a3 a4 a5 a6 a7 a8 a9 a10 a11 a12 := by
    unfold wX_restOfTwo_71
    rw [nI_clamp (show r < 2 ^ 31 by omega), r7]
    exact br_f (by decide) ⟨hir, sg_r88 ht hm hq hk H⟩
  have h54 : wX_restOfTwo_54 post k (nI l) (nI r) 1 1 b0 b1 (nI top) b3 a1 a2 a3 a4 a5 a6 a7 a8 a9 a10 a11 a12 := by
    unfold wX_restOfTwo_54
    rw [nI_clamp (show l < 2 ^ 31 by omega), l7]
    exact br_f (by decide) ⟨hil, h71⟩
  have h26 : wX_restOfTwo_26 post k (nI l) (nI r) 1 b0 b1 (nI top) b3 a1 a2 a3 a4 a5 a6 a7 a8 a9 a10 a11 a12 := by
    unfold wX_restOfTwo_26
    rw [nI_clamp (show l < 2 ^ 31 by omega), nI_clamp (show r < 2 ^ 31 by omega)]
    exact br_c (fun _ => ⟨hir, hil, br_f le' h54⟩) (fun _ => h54)
  unfold wpX_restOfTwo
  dsimp only
  rw [nI_clamp (show l < 2 ^ 31 by omega), nI_clamp (show r < 2 ^ 31 by omega)]
  exact br_c (fun _ => ⟨hil, hir, br_f le h26⟩) (fun _ => h26)
theorem sg_f3 {post : St2 → Prop} {x l r m q top : Nat} {k : Int32} (hx : x < 512) (hl : l < 512) (hr : r < 512) (hm : m < 512) (hq : q < 512) (ht : top < 512) (h4 : a4 x = k) (hk : k = 3 ∨ k = 4 ∨ k = 8) (h7 : a7 x = nI l) (h8 : a8 x = nI r) (l7 : a7 l = nI m) (r7 : a7 r = nI q) (l5 : a5 l = 0) (r5 : a5 r = 0)
    (H : post (b0, b1, nI (top + 1), b3, a1, a2, a3, upd (upd a4 top k) x 9, upd (upd a5 top 0) x 0, upd a6 top 0, upd (upd a7 top (nI m)) x (nI top), upd a8 top (nI q), upd (upd a9 x 0) top 0, a10, a11, a12)) :
    wpX_finish post (b0, b1, nI top, b3, a1, a2, a3, a4, a5, a6, a7, a8, a9, a10, a11, a12) (nI x) := by
  have hi : vp_in (nI x) 512 := pk_in x 512 hx
  have hil : vp_in (nI l) 512 := pk_in l 512 hl
  have hir : vp_in (nI r) 512 := pk_in r 512 hr
  have ll : ¬ a5 r < a5 l := by rw [l5, r5]; decide
  have ll' : ¬ a5 l < a5 r := by rw [l5, r5]; decide
  have hk8 : k.toInt8.toInt32 = k := by
    rcases hk with e | e | e
    all_goals
      rw [e]
      decide
  unfold wpX_finish
  dsimp only
  rw [nI_clamp (show x < 2 ^ 31 by omega), h7, h8]
  have n2 : ¬ k = 2 ∧ ¬ k = 0 ∧ ¬ k = 5 ∧ ¬ k = 6 ∧ ¬ k = 7 := by
    rcases hk with e | e | e
    all_goals
      rw [e]
      decide
  refine ⟨hi, nm_r h4 ⟨hi, nm_e (br_f n2.1 ⟨hi, nm_e ⟨hi, nm_e (br_f n2.2.1 (br_f n2.2.2.1 (br_f n2.2.2.2.1 (br_f n2.2.2.2.2 ⟨hi, nm_e ⟨hil, hir, ?_⟩⟩))))⟩⟩)⟩⟩
  rw [nI_clamp (show l < 2 ^ 31 by omega), nI_clamp (show r < 2 ^ 31 by omega), l5, r5]
  unfold wpX_headOfTwo
  dsimp only
  have go := sg_rest (a9 := upd a9 x 0) (a10 := a10) (a11 := a11) (a12 := a12) (a1 := a1) (a2 := a2) (a3 := a3) (a6 := a6) (a8 := a8) (b0 := b0) (b1 := b1) (b3 := b3) (k := k) (k' := k) (post := fun r_19 u => match u with | (c0, c1, c2, c3, d1, d2, d3, d4, d5, d6, d7, d8, d9, d10, d11, d12) => wX_finish_269 post (nI x) 0 r_19 c0 c1 c2 c3 d1 d2 d3 d4 d5 d6 d7 d8 d9 d10 d11 d12) ht hl hr hm hq hk8 l7 r7 ll ll' (sg_f269 hx ht H)
  rcases hk with e | e | e
  · exact br_t e go
  · exact br_f (by rw [e]; decide) (br_t e go)
  · exact br_f (by rw [e]; decide) (br_f (by rw [e]; decide) (br_t (by decide) go))
end
end
section
section
variable {b0 b2 : Int32} {a1 a2 a3 a4 a5 a6 a7 a8 a9 a10 a11 a12 : Nat → Int32}
theorem sg_F0 {post : Int32 → St2 → Prop} {top n : Nat} {res : Int32}
    (H : post res (b0, 0, nI top, nI 0, a1, a2, a3, a4, a5, a6, a7, a8, a9, a10, a11, a12)) :
    wX_force_12 post (n + 1) res b0 0 (nI top) (nI 0) a1 a2 a3 a4 a5 a6 a7 a8 a9 a10 a11 a12 :=
  pk_le 0 0 (fun _ => H) (fun z => absurd z (by omega))
theorem sg_F1 {post : Int32 → St2 → Prop} {top n sp : Nat} {res : Int32} (ht : top < 256) (hs : sp < 16)
    (H : wX_force_38 post (wX_force_12 post n) res b0 0 (nI top) (nI (sp + 1)) a1 a2 a3 a4 a5 a6 a7 a8 a9 a10 a11 a12) :
    wX_force_12 post (n + 1) res b0 0 (nI top) (nI (sp + 1)) a1 a2 a3 a4 a5 a6 a7 a8 a9 a10 a11 a12 :=
  pk_le (sp + 1) 0 (fun z => absurd z (by omega)) (fun _ => pk_eq top 256 (fun z => absurd z (by omega)) (fun _ => H) rfl (by decide))
/-- a cell is on top: it is the answer, and goes -/
theorem sg_Fcell {post : Int32 → St2 → Prop} {top n sp x : Nat} {res : Int32} (ht : top < 256) (hs : sp < 16) (hx : x < 512) (h12 : a12 sp = nI x) (h4 : a4 x = 9)
    (H : wX_force_12 post n (nI x) b0 0 (nI top) (nI sp) a1 a2 a3 a4 a5 a6 a7 a8 a9 a10 a11 a12) :
    wX_force_12 post (n + 1) res b0 0 (nI top) (nI (sp + 1)) a1 a2 a3 a4 a5 a6 a7 a8 a9 a10 a11 a12 := by
  refine sg_F1 ht hs ?_
  unfold wX_force_38
  rw [nI_pred, nI_clamp (show sp < 2 ^ 31 by omega), h12]
  exact ⟨pk_in sp 16 hs, sg_follow hx (by rw [h4]; decide) ⟨pk_in sp 16 hs, nm_r (e' := a12) (by rw [sg_sh x hx]; exact sg_usame h12) ⟨pk_in x 512 hx, br_t (by rw [nI_clamp (show x < 2 ^ 31 by omega)]; exact h4) (nm_e H)⟩⟩⟩
/-- a link is on top -/
theorem sg_Flink {post : Int32 → St2 → Prop} {top n sp x c : Nat} {res : Int32} (ht : top < 256) (hs : sp < 16) (hx : x < 512) (hc : c < 512) (h12 : a12 sp = nI x) (h4 : a4 x = 10) (h7 : a7 x = nI c) (c4 : a4 c = 9)
    (H : wX_force_12 post n (nI c) b0 0 (nI top) (nI sp) a1 a2 a3 a4 a5 a6 a7 a8 a9 a10 a11 (upd a12 sp (nI c))) :
    wX_force_12 post (n + 1) res b0 0 (nI top) (nI (sp + 1)) a1 a2 a3 a4 a5 a6 a7 a8 a9 a10 a11 a12 := by
  refine sg_F1 ht hs ?_
  unfold wX_force_38
  rw [nI_pred, nI_clamp (show sp < 2 ^ 31 by omega), h12]
  exact ⟨pk_in sp 16 hs, sg_follow10 hx h4 h7 hc (by rw [c4]; decide) ⟨pk_in sp 16 hs, nm_r (e' := upd a12 sp (nI c)) (by rw [sg_sh c hc]) ⟨pk_in c 512 hc, br_t (by rw [nI_clamp (show c < 2 ^ 31 by omega)]; exact c4) (nm_e H)⟩⟩⟩
/-- a computation is on top: its wanted node decides -/
theorem sg_Fpush {post : Int32 → St2 → Prop} {top n sp x w : Nat} {res : Int32} (ht : top < 256) (hs : sp + 1 < 16) (hx : x < 512) (hw : w < 512) (h12 : a12 sp = nI x) (e9 : ¬ a4 x = 9) (e10 : ¬ a4 x = 10) (hb : upd a9 x 1 w = 0)
    (hwb : ∀ P : Int32 → St2 → Prop, P (nI w) (b0, 0, nI top, nI (sp + 1), a1, a2, a3, a4, a5, a6, a7, a8, upd a9 x 1, a10, a11, a12) → wpX_wantedBy P (b0, 0, nI top, nI (sp + 1), a1, a2, a3, a4, a5, a6, a7, a8, upd a9 x 1, a10, a11, a12) (nI x))
    (H : wX_force_12 post n res b0 0 (nI top) (nI (sp + 1 + 1)) a1 a2 a3 a4 a5 a6 a7 a8 (upd a9 x 1) a10 a11 (upd a12 (sp + 1) (nI w))) :
    wX_force_12 post (n + 1) res b0 0 (nI top) (nI (sp + 1)) a1 a2 a3 a4 a5 a6 a7 a8 a9 a10 a11 a12 := by
  refine sg_F1 ht (by omega) ?_
  unfold wX_force_38
  rw [nI_pred, nI_clamp (show sp < 2 ^ 31 by omega), h12]
  refine ⟨pk_in sp 16 (by omega), sg_follow hx e10 ⟨pk_in sp 16 (by omega), nm_r (e' := a12) (by rw [sg_sh x hx]; exact sg_usame h12) ⟨pk_in x 512 hx, ?_⟩⟩⟩
  rw [nI_clamp (show x < 2 ^ 31 by omega)]
  refine br_f e9 ⟨pk_in x 512 hx, nm_e (hwb _ ?_)⟩
  exact br_t (nI_pos' (by omega)) ⟨pk_in w 512 hw, br_t (by rw [nI_clamp (show w < 2 ^ 31 by omega)]; exact hb) (sg_push hs hw H)⟩
theorem sg_Ffin {post : Int32 → St2 → Prop} {top n sp x : Nat} {res c2 : Int32} {c4 c5 c6 c7 c8 c9 : Nat → Int32} (ht : top < 256) (hs : sp < 16) (hx : x < 512) (h12 : a12 sp = nI x) (e9 : ¬ a4 x = 9) (e10 : ¬ a4 x = 10)
    (hwb : ∀ P : Int32 → St2 → Prop, P (-1) (b0, 0, nI top, nI (sp + 1), a1, a2, a3, a4, a5, a6, a7, a8, upd a9 x 1, a10, a11, a12) → wpX_wantedBy P (b0, 0, nI top, nI (sp + 1), a1, a2, a3, a4, a5, a6, a7, a8, upd a9 x 1, a10, a11, a12) (nI x))
    (hf : ∀ P : St2 → Prop, P (b0, 0, c2, nI (sp + 1), a1, a2, a3, c4, c5, c6, c7, c8, c9, a10, a11, a12) → wpX_finish P (b0, 0, nI top, nI (sp + 1), a1, a2, a3, a4, a5, a6, a7, a8, upd a9 x 1, a10, a11, a12) (nI x))
    (H : wX_force_12 post n res b0 0 c2 (nI (sp + 1)) a1 a2 a3 c4 c5 c6 c7 c8 c9 a10 a11 a12) :
    wX_force_12 post (n + 1) res b0 0 (nI top) (nI (sp + 1)) a1 a2 a3 a4 a5 a6 a7 a8 a9 a10 a11 a12 := by
  refine sg_F1 ht (by omega) ?_
  unfold wX_force_38
  rw [nI_pred, nI_clamp (show sp < 2 ^ 31 by omega), h12]
  refine ⟨pk_in sp 16 (by omega), sg_follow hx e10 ⟨pk_in sp 16 (by omega), nm_r (e' := a12) (by rw [sg_sh x hx]; exact sg_usame h12) ⟨pk_in x 512 hx, ?_⟩⟩⟩
  rw [nI_clamp (show x < 2 ^ 31 by omega)]
  refine br_f e9 ⟨pk_in x 512 hx, nm_e (hwb _ ?_)⟩
  exact br_f (by decide) (hf _ H)
/-- the wanted node is busy, with one node on the stack: -1 -/
theorem sg_Fgive {post : Int32 → St2 → Prop} {top n x w : Nat} {res : Int32} (ht : top < 256) (hx : x < 512) (hw : w < 512) (h12 : a12 0 = nI x) (e9 : ¬ a4 x = 9) (e10 : ¬ a4 x = 10) (hb : ¬ upd a9 x 1 w = 0)
    (hwb : ∀ P : Int32 → St2 → Prop, P (nI w) (b0, 0, nI top, nI 1, a1, a2, a3, a4, a5, a6, a7, a8, upd a9 x 1, a10, a11, a12) → wpX_wantedBy P (b0, 0, nI top, nI 1, a1, a2, a3, a4, a5, a6, a7, a8, upd a9 x 1, a10, a11, a12) (nI x))
    (H : post (-1) (b0, 0, nI top, 0, a1, a2, a3, a4, a5, a6, a7, a8, upd a9 x 0, a10, a11, a12)) :
    wX_force_12 post (n + 1) res b0 0 (nI top) (nI (0 + 1)) a1 a2 a3 a4 a5 a6 a7 a8 a9 a10 a11 a12 := by
  refine sg_F1 ht (by omega) ?_
  unfold wX_force_38
  rw [nI_pred, nI_clamp (show 0 < 2 ^ 31 by omega), h12]
  refine ⟨pk_in 0 16 (by omega), sg_follow hx e10 ⟨pk_in 0 16 (by omega), nm_r (e' := a12) (by rw [sg_sh x hx]; exact sg_usame h12) ⟨pk_in x 512 hx, ?_⟩⟩⟩
  rw [nI_clamp (show x < 2 ^ 31 by omega)]
  refine br_f e9 ⟨pk_in x 512 hx, nm_e (hwb _ ?_)⟩
  refine br_t (nI_pos' (by omega)) ⟨pk_in w 512 hw, br_f (by rw [nI_clamp (show w < 2 ^ 31 by omega)]; exact hb) ?_⟩
  refine ⟨2, pk_le 1 0 (fun z => absurd z (by omega)) (fun _ => ⟨pk_in 0 16 (by omega), ?_⟩)⟩
  rw [show (0 : Int32).toNatClampNeg = 0 from rfl, h12]
  refine ⟨pk_in x 512 hx, nm_r (e' := upd a9 x 0) (by rw [nI_clamp (show x < 2 ^ 31 by omega), sg_uu]) (nm_r (nI_1 0) (pk_le 1 1 (fun _ => H) (fun z => absurd z (by omega))))⟩
end
end
section
section
variable {b0 b1 b3 : Int32} {a1 a2 a3 a4 a5 a6 a7 a8 a9 a10 a11 a12 : Nat → Int32} {K s top : Nat} {f : Nat → Nat → Int32} {dep t n : Nat → Nat}
theorem sg_o1 {a : Nat → Int32} {v : Int32} {z : Nat} (hz : z < top) : upd a top v z = a z := pk_un (by omega)
theorem sg_o2 {a : Nat → Int32} {v u : Int32} {z w : Nat} (hz : z < top) (hw : z ≠ w) : upd (upd a top v) w u z = a z := by
  rw [pk_un hw, pk_un (by omega)]
theorem sg_ot {a : Nat → Int32} {v u : Int32} {w : Nat} (hw : w < top) : upd (upd a top v) w u top = v := by
  rw [pk_un (by omega), pk_us]
theorem sg_inj {a b : Nat} (h : nI a = nI b) (ha : a < 512) (hb : b < 512) : a = b := (nI_eq (by omega) (by omega)).mp h
theorem sg_kc {K : Nat} (a : 2 ≤ K) (b : K ≤ 8) (c : K ≠ 2) : K = 3 ∨ K = 4 ∨ K = 5 ∨ K = 6 ∨ K = 7 ∨ K = 8 := by omega
theorem sg_finC {w : Nat} (h : sg_Inv K s top a4 a5 a6 a7 a8 f dep t n) (hw : w < top) (hd : dep w ≤ 16) (w4 : a4 w = 0) :
    ∃ t' n', sg_Inv K s (top + 1) (upd (upd a4 top 0) w 9) (upd (upd a5 top (a5 w + a6 w)) w (a5 w)) (upd a6 top (a6 w)) (upd (upd a7 top 0) w (nI top)) (upd a8 top 0) (sg_up f top (fun j => f w (j + 1))) (sg_up dep top (dep w + 1)) t' n' := by
  have kk := h.1
  have w5 : a5 w = f w 0 := by
    rw [h.2.2.2.1 w hw w4 0, nI_0, Int32.zero_mul, Int32.add_zero]
  refine sg_fin h hw hd (Or.inl w4) (fun z hz e => ⟨sg_o2 hz e, sg_o2 hz e, sg_o1 hz, sg_o2 hz e, sg_o1 hz⟩) pk_us (by rw [pk_us, w5]) pk_us (by rw [sg_ot hw, w4]) (fun _ => ⟨sg_ot hw, pk_us⟩) (fun q => ?_)
  rw [w4] at q
  exact absurd q.symm (sg_K0 kk.1 kk.2.1)
theorem sg_finK {x l' r' : Nat} {v : Int32} (h : sg_Inv K s top a4 a5 a6 a7 a8 f dep t n) (hx : x < top) (hd : dep x ≤ 16) (x4 : a4 x = nI K) (k2 : K ≠ 2) (hl : l' < top) (hr : r' < top) (dl : dep l' ≤ dep x + 1) (dr : K = 3 ∨ K = 4 ∨ K = 7 ∨ K = 8 → dep r' ≤ dep x + 1) (hv : K = 6 → v = 0) :
    ∃ t' n', sg_Inv K s (top + 1) (upd (upd a4 top (nI K)) x 9) (upd (upd a5 top v) x 0) (upd a6 top 0) (upd (upd a7 top (nI l')) x (nI top)) (upd a8 top (nI r')) (sg_up f top (fun j => f x (j + 1))) (sg_up dep top (dep x + 1)) t' n' := by
  have kk := h.1
  obtain ⟨_, _, _, _, _, _, _, _, _, _, _, _, fz, _⟩ := h.2.2.2.2.2.2.1 x hx x4
  refine sg_fin h hx hd (Or.inr ⟨x4, k2⟩) (fun z hz e => ⟨sg_o2 hz e, sg_o2 hz e, sg_o1 hz, sg_o2 hz e, sg_o1 hz⟩) pk_us (by rw [pk_us, fz]) pk_us (by rw [sg_ot hx, x4]) (fun q => ?_) (fun _ => ⟨l', r', sg_ot hx, pk_us, hl, hr, dl, dr, fun g => by rw [sg_ot hx, hv g]⟩)
  rw [x4] at q
  exact absurd q (sg_K0 kk.1 kk.2.1)
/-- a COUNT on top of the stack: two rounds, and it is a cell, popped -/
theorem sg_doC {post : Int32 → St2 → Prop} {sp w : Nat} {res : Int32} (h : sg_Inv K s top a4 a5 a6 a7 a8 f dep t n) (hw : w < top) (hd : dep w ≤ 16) (w4 : a4 w = 0) (hs : sp < 16) (h12 : a12 sp = nI w) (h9 : a9 w = 0)
    (H : ∀ c4 c5 c6 c7 c8 t' n', sg_Inv K s (top + 1) c4 c5 c6 c7 c8 (sg_up f top (fun j => f w (j + 1))) (sg_up dep top (dep w + 1)) t' n' → c4 w = 9 → (∀ z, z < top → z ≠ w → c4 z = a4 z ∧ c7 z = a7 z ∧ c8 z = a8 z) → ∃ N, wX_force_12 post N (nI w) b0 0 (nI (top + 1)) (nI sp) a1 a2 a3 c4 c5 c6 c7 c8 (upd a9 top 0) a10 a11 a12) :
    ∃ N, wX_force_12 post N res b0 0 (nI top) (nI (sp + 1)) a1 a2 a3 a4 a5 a6 a7 a8 a9 a10 a11 a12 := by
  have tb := sg_top h
  obtain ⟨t', n', I⟩ := sg_finC h hw hd w4
  obtain ⟨N, hN⟩ := H _ _ _ _ _ t' n' I pk_us (fun z hz e => ⟨sg_o2 hz e, sg_o2 hz e, sg_o1 hz⟩)
  refine ⟨N + 1 + 1, sg_Ffin (by omega) hs (by omega) h12 (by rw [w4]; decide) (by rw [w4]; decide) (fun P hp => sg_wb0 (by omega) w4 hp) (fun P hp => sg_f0 (by omega) (by omega) w4 ?_) (sg_Fcell (by omega) hs (by omega) h12 pk_us hN)⟩
  rw [sg_uu, sg_usame h9]
  exact hp
/-- a computation K whose cells are finished -/
theorem sg_fK {x l : Nat} (h : sg_Inv K s top a4 a5 a6 a7 a8 f dep t n) (hx : x < top) (hd : dep x ≤ 16) (x4 : a4 x = nI K) (k2 : K ≠ 2) (h7 : a7 x = nI l) (hl : l < top) (l9 : a4 l = 9)
    (rr : K = 3 ∨ K = 4 ∨ K = 8 → ∃ r, a8 x = nI r ∧ r < top ∧ a4 r = 9) :
    ∃ c4 c5 c6 c7 c8 t' n', sg_Inv K s (top + 1) c4 c5 c6 c7 c8 (sg_up f top (fun j => f x (j + 1))) (sg_up dep top (dep x + 1)) t' n' ∧ c4 x = 9 ∧
      ∀ (d9 : Nat → Int32) (P : St2 → Prop), P (b0, b1, nI (top + 1), b3, a1, a2, a3, c4, c5, c6, c7, c8, upd (upd d9 x 0) top 0, a10, a11, a12) → wpX_finish P (b0, b1, nI top, b3, a1, a2, a3, a4, a5, a6, a7, a8, d9, a10, a11, a12) (nI x) := by
  have tb := sg_top h
  have kk := h.1
  have h0 := h
  obtain ⟨_, c1, c2, c3, c4, c5, c6, c7, c8, c9⟩ := h0
  obtain ⟨l', r, q7, q8, lt, lx, dl, rt, dr, rx, q6, q2, fz, un⟩ := c6 x hx x4
  have el : l' = l := sg_inj (by rw [← q7, h7]) (by omega) (by omega)
  rw [el] at dl
  obtain ⟨m, l7, mt, l5, _, dm, _⟩ := c2 l hl l9
  rw [fz] at l5
  have kc := sg_kc kk.1 kk.2.1 k2
  have two : (K = 3 ∨ K = 4 ∨ K = 8) → ∃ c4 c5 c6 c7 c8 t' n', sg_Inv K s (top + 1) c4 c5 c6 c7 c8 (sg_up f top (fun j => f x (j + 1))) (sg_up dep top (dep x + 1)) t' n' ∧ c4 x = 9 ∧
      ∀ (d9 : Nat → Int32) (P : St2 → Prop), P (b0, b1, nI (top + 1), b3, a1, a2, a3, c4, c5, c6, c7, c8, upd (upd d9 x 0) top 0, a10, a11, a12) → wpX_finish P (b0, b1, nI top, b3, a1, a2, a3, a4, a5, a6, a7, a8, d9, a10, a11, a12) (nI x) := by
    intro g
    obtain ⟨r', q8', rt', r9⟩ := rr g
    have er : r = r' := sg_inj (by rw [← q8, q8']) (by omega) (by omega)
    have dr' := dr (by omega)
    rw [er] at dr'
    obtain ⟨q, r7, qt, r5, _, dq, _⟩ := c2 r' rt' r9
    rw [fz] at r5
    obtain ⟨t', n', I⟩ := sg_finK (v := 0) h hx hd x4 k2 mt qt (by omega) (fun _ => by omega) (fun _ => rfl)
    refine ⟨_, _, _, _, _, t', n', I, pk_us, fun d9 P hp => sg_f3 (by omega) (by omega) (by omega) (by omega) (by omega) (by omega) x4 ?_ h7 q8' l7 r7 l5 r5 hp⟩
    rcases g with e | e | e
    · exact Or.inl (by rw [e]; rfl)
    · exact Or.inr (Or.inl (by rw [e]; rfl))
    · exact Or.inr (Or.inr (by rw [e]; rfl))
  rcases kc with e | e | e | e | e | e
  · exact two (Or.inl e)
  · exact two (Or.inr (Or.inl e))
  · subst e
    obtain ⟨t', n', I⟩ := sg_finK (v := a5 x) (r' := 0) h hx hd x4 k2 mt (by omega) (by omega) (fun g => by omega) (fun g => by omega)
    refine ⟨_, _, _, _, _, t', n', I, pk_us, fun d9 P hp => sg_f5 (by omega) (by omega) (by omega) (by omega) x4 h7 l7 ?_⟩
    rw [l5, Int32.mul_zero]
    exact hp
  · subst e
    obtain ⟨t', n', I⟩ := sg_finK (v := 0) (r' := 0) h hx hd x4 k2 mt (by omega) (by omega) (fun g => by omega) (fun g => rfl)
    refine ⟨_, _, _, _, _, t', n', I, pk_us, fun d9 P hp => sg_f6 (by omega) (by omega) (by omega) (by omega) x4 h7 l7 ?_⟩
    rw [l5, q6 rfl, Int32.add_zero]
    exact hp
  · subst e
    obtain ⟨t', n', I⟩ := sg_finK (v := 0) (l' := r) (r' := m) h hx hd x4 k2 rt mt (by have := dr (by omega); omega) (fun g => by omega) (fun g => rfl)
    refine ⟨_, _, _, _, _, t', n', I, pk_us, fun d9 P hp => sg_f7 (by omega) (by omega) (by omega) (by omega) (by omega) x4 h7 l7 q8 ?_⟩
    rw [l5]
    exact hp
  · exact two (Or.inr (Or.inr e))
end
end
section
/-- node x, a computation K, is at the bottom of the stack and alone busy; the heap has grown out of (top0, f0, dep0) -/
def sg_Act (K s x top0 : Nat) (f0 : Nat → Nat → Int32) (dep0 : Nat → Nat) (top : Nat) (a4 a5 a6 a7 a8 a9 a12 : Nat → Int32) : Prop :=
  ∃ f dep t n, sg_Inv K s top a4 a5 a6 a7 a8 f dep t n ∧ top0 ≤ top ∧ (∀ z, z < top0 → f z = f0 z ∧ dep z = dep0 z) ∧ a4 x = nI K ∧ (∀ z, z < top → z ≠ x → a9 z = 0) ∧ a12 0 = nI x
/-- force of x has answered the cell c -/
def sg_Done (K s x top0 : Nat) (f0 : Nat → Nat → Int32) (dep0 : Nat → Nat) (c top : Nat) (a4 a5 a6 a7 a8 a9 : Nat → Int32) : Prop :=
  ∃ f dep t n, sg_Inv K s top a4 a5 a6 a7 a8 f dep t n ∧ top0 ≤ top ∧ (∀ z, z < top0 → f z = f0 z ∧ dep z = dep0 z) ∧ c < top ∧ a4 c = 9 ∧ (∀ j, f c j = f0 x j) ∧ (dep c ≤ dep0 x ∨ (K = 2 ∧ x = s ∧ dep c ≤ 1)) ∧ (∀ z, z < top → a9 z = 0)
theorem sg_kn {K : Nat} {v : Int32} (h : v = nI K) (g : K = 3 ∨ K = 4 ∨ K = 8) : v = 3 ∨ v = 4 ∨ v = 8 := by
  rcases g with e | e | e
  · exact Or.inl (by rw [h, e]; rfl)
  · exact Or.inr (Or.inl (by rw [h, e]; rfl))
  · exact Or.inr (Or.inr (by rw [h, e]; rfl))
theorem sg_kn5 {K : Nat} {v : Int32} (h : v = nI K) (a : 2 ≤ K) (b : K ≤ 8) (c : K ≠ 2) (g : ¬ (K = 3 ∨ K = 4 ∨ K = 8)) : v = 5 ∨ v = 6 ∨ v = 7 := by
  have q : K = 5 ∨ K = 6 ∨ K = 7 := by omega
  rcases q with e | e | e
  · exact Or.inl (by rw [h, e]; rfl)
  · exact Or.inr (Or.inl (by rw [h, e]; rfl))
  · exact Or.inr (Or.inr (by rw [h, e]; rfl))
section
variable {b0 b3 : Int32} {a1 a2 a3 a4 a5 a6 a7 a8 a9 a10 a11 a12 : Nat → Int32} {K s top x top0 : Nat} {f f0 : Nat → Nat → Int32} {dep dep0 t n : Nat → Nat} {post : Int32 → St2 → Prop} {res : Int32}
theorem sg_want {w : Nat} (I : sg_Inv K s top a4 a5 a6 a7 a8 f dep t n) (hx : x < top) (x4 : a4 x = nI K) (h9 : ∀ z, z < top → z ≠ x → a9 z = 0) (h12 : a12 0 = nI x) (hw : w < top) (w4 : a4 w = 0) (hd : dep w ≤ 16)
    (hwb : ∀ P : Int32 → St2 → Prop, P (nI w) (b0, 0, nI top, nI (0 + 1), a1, a2, a3, a4, a5, a6, a7, a8, upd a9 x 1, a10, a11, a12) → wpX_wantedBy P (b0, 0, nI top, nI (0 + 1), a1, a2, a3, a4, a5, a6, a7, a8, upd a9 x 1, a10, a11, a12) (nI x))
    (E0 : top0 ≤ top) (E : ∀ z, z < top0 → f z = f0 z ∧ dep z = dep0 z)
    (H : ∀ c4 c5 c6 c7 c8 c9 c12, sg_Act K s x top0 f0 dep0 (top + 1) c4 c5 c6 c7 c8 c9 c12 → c4 w = 9 → (∀ z, z < top → z ≠ w → c4 z = a4 z ∧ c7 z = a7 z ∧ c8 z = a8 z) → ∃ N, wX_force_12 post N (nI w) b0 0 (nI (top + 1)) (nI (0 + 1)) a1 a2 a3 c4 c5 c6 c7 c8 c9 a10 a11 c12) :
    ∃ N, wX_force_12 post N res b0 0 (nI top) (nI (0 + 1)) a1 a2 a3 a4 a5 a6 a7 a8 a9 a10 a11 a12 := by
  have tb := sg_top I
  have kk := I.1
  have wx : w ≠ x := by
    intro e
    rw [e, x4] at w4
    exact sg_K0 kk.1 kk.2.1 w4
  have hb : upd a9 x 1 w = 0 := by rw [pk_un wx]; exact h9 w hw wx
  have G := sg_doC (post := post) (res := res) (b0 := b0) (a1 := a1) (a2 := a2) (a3 := a3) (a10 := a10) (a11 := a11) (sp := 0 + 1) (a9 := upd a9 x 1) (a12 := upd a12 (0 + 1) (nI w)) I hw hd w4 (by omega) pk_us hb
    (fun c4 c5 c6 c7 c8 t' n' I' e9 o => H c4 c5 c6 c7 c8 _ _ ⟨_, _, t', n', I', by omega, fun z hz => ⟨by rw [sg_un (by omega)]; exact (E z hz).1, by rw [sg_un (by omega)]; exact (E z hz).2⟩, by rw [(o x hx (Ne.symm wx)).1]; exact x4, fun z hz zx => by
      by_cases e : z = top
      · rw [e, pk_us]
      · rw [pk_un e, pk_un zx]
        exact h9 z (by omega) zx, by rw [pk_un (by omega)]; exact h12⟩ e9 o)
  obtain ⟨N, hN⟩ := G
  exact ⟨N + 1, sg_Fpush (by omega) (by omega) (by omega) (by omega) h12 (by rw [x4]; exact sg_K9 kk.1 kk.2.1) (by rw [x4]; exact sg_K10 kk.1 kk.2.1) hb hwb hN⟩
theorem sg_stL (A : sg_Act K s x top0 f0 dep0 top a4 a5 a6 a7 a8 a9 a12) (hx : x < top0) (hd : dep0 x ≤ 16)
    (H : ∀ top' c4 c5 c6 c7 c8 c9 c12 l res', sg_Act K s x top0 f0 dep0 top' c4 c5 c6 c7 c8 c9 c12 → c7 x = nI l → l < top' → c4 l = 9 → ∃ N, wX_force_12 post N res' b0 0 (nI top') (nI (0 + 1)) a1 a2 a3 c4 c5 c6 c7 c8 c9 a10 a11 c12) :
    ∃ N, wX_force_12 post N res b0 0 (nI top) (nI (0 + 1)) a1 a2 a3 a4 a5 a6 a7 a8 a9 a10 a11 a12 := by
  have A0 := A
  obtain ⟨f, dep, t, n, I, tt, E, x4, h9, h12⟩ := A
  have tb := sg_top I
  have xt : x < top := by omega
  have I0 := I
  obtain ⟨kk, c1, c2, c3, c4, c5, c6, c7, c8, c9⟩ := I0
  obtain ⟨l, r, q7, q8, lt, lx, dl, rt, dr, rx, q6, q2, fz, un⟩ := c6 x xt x4
  by_cases l9 : a4 l = 9
  · exact H _ _ _ _ _ _ _ _ l res A0 q7 lt l9
  · have l0 : a4 l = 0 := by
      rcases c1 l lt with e | e | e | e
      · exact e
      · exact absurd e l9
      · have g := c5 l lt e
        exact absurd (g.2.1.trans (q2 g.1).symm) lx
      · exact absurd (un l lt e) lx
    have d' : dep l ≤ 16 := by
      rw [(E x hx).2] at dl
      omega
    exact sg_want I xt x4 h9 h12 lt l0 d' (fun P hp => sg_wbl (by omega) (by omega) (by rw [x4]; exact sg_K0 kk.1 kk.2.1) q7 l9 (by rw [l0]; decide) hp) tt E
      (fun c4 c5 c6 c7 c8 c9 c12 A' w9 o => H _ _ _ _ _ _ _ _ l _ A' (by rw [(o x xt (Ne.symm lx)).2.1]; exact q7) (by omega) w9)
theorem sg_stR {l : Nat} (A : sg_Act K s x top0 f0 dep0 top a4 a5 a6 a7 a8 a9 a12) (hx : x < top0) (hd : dep0 x ≤ 16) (h7 : a7 x = nI l) (hl : l < top) (l9 : a4 l = 9)
    (H : ∀ top' c4 c5 c6 c7 c8 c9 c12 res', sg_Act K s x top0 f0 dep0 top' c4 c5 c6 c7 c8 c9 c12 → c7 x = nI l → l < top' → c4 l = 9 → (K = 3 ∨ K = 4 ∨ K = 8 → ∃ r, c8 x = nI r ∧ r < top' ∧ c4 r = 9) → (K = 2 → ∃ c, c7 l = nI c ∧ c < top' ∧ c4 c = 9) → ∃ N, wX_force_12 post N res' b0 0 (nI top') (nI (0 + 1)) a1 a2 a3 c4 c5 c6 c7 c8 c9 a10 a11 c12) :
    ∃ N, wX_force_12 post N res b0 0 (nI top) (nI (0 + 1)) a1 a2 a3 a4 a5 a6 a7 a8 a9 a10 a11 a12 := by
  have A0 := A
  obtain ⟨f, dep, t, n, I, tt, E, x4, h9, h12⟩ := A
  have tb := sg_top I
  have xt : x < top := by omega
  have I0 := I
  obtain ⟨kk, c1, c2, c3, c4, c5, c6, c7, c8, c9⟩ := I0
  obtain ⟨l', r, q7, q8, lt, lx, dl, rt, dr, rx, q6, q2, fz, un⟩ := c6 x xt x4
  have el : l' = l := sg_inj (by rw [← q7, h7]) (by omega) (by omega)
  rw [el] at dl lx
  have dx : dep x ≤ 16 := by
    rw [(E x hx).2]
    exact hd
  by_cases two : K = 3 ∨ K = 4 ∨ K = 8
  · have k2 : K ≠ 2 := by omega
    by_cases r9 : a4 r = 9
    · exact H _ _ _ _ _ _ _ _ res A0 h7 hl l9 (fun _ => ⟨r, q8, rt, r9⟩) (fun g => absurd g k2)
    · have r0 : a4 r = 0 := by
        rcases c1 r rt with e | e | e | e
        · exact e
        · exact absurd e r9
        · exact absurd (c5 r rt e).1 k2
        · exact absurd (un r rt e) (rx two)
      have d' : dep r ≤ 16 := by
        have := dr (by omega)
        omega
      have lr : l ≠ r := by
        intro e
        rw [e] at l9
        exact r9 l9
      exact sg_want I xt x4 h9 h12 rt r0 d' (fun P hp => sg_wb3 (by omega) (by omega) (by omega) (sg_kn x4 two) h7 l9 q8 (by rw [r0]; decide) (fun g => absurd g r9) (fun _ => hp)) tt E
        (fun c4 c5 c6 c7 c8 c9 c12 A' w9 o => H _ _ _ _ _ _ _ _ _ A' (by rw [(o x xt (Ne.symm (rx two))).2.1]; exact h7) (by omega) (by rw [(o l hl lr).1]; exact l9) (fun _ => ⟨r, by rw [(o x xt (Ne.symm (rx two))).2.2]; exact q8, by omega, w9⟩) (fun g => absurd g k2))
  · by_cases k2 : K = 2
    · have xs := q2 k2
      obtain ⟨c, l7, ct, _, _, dc, cs⟩ := c2 l hl l9
      have cs' := cs k2
      have cx : c ≠ x := by
        rw [xs]
        exact cs'
      by_cases e9 : a4 c = 9
      · exact H _ _ _ _ _ _ _ _ res A0 h7 hl l9 (fun g => absurd g two) (fun _ => ⟨c, l7, ct, e9⟩)
      · have e0 : a4 c = 0 := by
          rcases c1 c ct with e | e | e | e
          · exact e
          · exact absurd e e9
          · exact absurd (c5 c ct e).2.1 cs'
          · exact absurd (un c ct e) cx
        have d' : dep c ≤ 16 := by
          rw [xs, c7] at dl
          omega
        have lc : l ≠ c := by
          intro e
          rw [e] at l9
          exact e9 l9
        have x2 : a4 x = 2 := by
          rw [x4, k2]
          rfl
        exact sg_want I xt x4 h9 h12 ct e0 d' (fun P hp => sg_wb2 (by omega) (by omega) (by omega) x2 h7 l9 l7 (by rw [e0]; decide) (fun g => absurd g e9) (fun _ => hp)) tt E
          (fun c4 c5 c6 c7 c8 c9 c12 A' w9 o => H _ _ _ _ _ _ _ _ _ A' (by rw [(o x xt (Ne.symm cx)).2.1]; exact h7) (by omega) (by rw [(o l hl lc).1]; exact l9) (fun g => absurd g two) (fun _ => ⟨c, by rw [(o l hl lc).2.1]; exact l7, by omega, w9⟩))
    · exact H _ _ _ _ _ _ _ _ res A0 h7 hl l9 (fun g => absurd g two) (fun g => absurd g k2)
theorem sg_stF {l : Nat} (A : sg_Act K s x top0 f0 dep0 top a4 a5 a6 a7 a8 a9 a12) (hx : x < top0) (hd : dep0 x ≤ 16) (h7 : a7 x = nI l) (hl : l < top) (l9 : a4 l = 9)
    (hr : K = 3 ∨ K = 4 ∨ K = 8 → ∃ r, a8 x = nI r ∧ r < top ∧ a4 r = 9) (hc : K = 2 → ∃ c, a7 l = nI c ∧ c < top ∧ a4 c = 9)
    (H : ∀ c top' c4 c5 c6 c7 c8 c9 c12, sg_Done K s x top0 f0 dep0 c top' c4 c5 c6 c7 c8 c9 → post (nI c) (b0, 0, nI top', nI 0, a1, a2, a3, c4, c5, c6, c7, c8, c9, a10, a11, c12)) :
    ∃ N, wX_force_12 post N res b0 0 (nI top) (nI (0 + 1)) a1 a2 a3 a4 a5 a6 a7 a8 a9 a10 a11 a12 := by
  obtain ⟨f, dep, t, n, I, tt, E, x4, h9, h12⟩ := A
  have tb := sg_top I
  have xt : x < top := by omega
  have I0 := I
  obtain ⟨kk, c1, c2, c3, c4, c5, c6, c7, c8, c9⟩ := I0
  obtain ⟨l', r, q7, q8, lt, lx, dl, rt, dr, rx, q6, q2, fz, un⟩ := c6 x xt x4
  have el : l' = l := sg_inj (by rw [← q7, h7]) (by omega) (by omega)
  rw [el] at dl lx
  have dx : dep x ≤ 16 := by
    rw [(E x hx).2]
    exact hd
  have x9 : ¬ a4 x = 9 := by rw [x4]; exact sg_K9 kk.1 kk.2.1
  have x10 : ¬ a4 x = 10 := by rw [x4]; exact sg_K10 kk.1 kk.2.1
  by_cases k2 : K = 2
  · obtain ⟨c, l7, ct, e9⟩ := hc k2
    have xs := q2 k2
    subst k2
    subst xs
    have cx : c ≠ x := by
      intro e
      rw [e] at e9
      exact x9 e9
    obtain ⟨c', l7', ct', _, _, dc, _⟩ := c2 l hl l9
    have ec : c' = c := sg_inj (by rw [← l7', l7]) (by omega) (by omega)
    rw [ec] at dc
    have dc1 : dep c ≤ 1 := by omega
    have I' := sg_finT I x4 ct e9 dc1
    refine ⟨1 + 1 + 1, sg_Ffin (by omega) (by omega) (by omega) h12 x9 x10 (fun P hp => sg_wb2 (by omega) (by omega) (by omega) x4 h7 l9 l7 (by rw [e9]; decide) (fun _ => hp) (fun g => absurd e9 g)) (fun P hp => sg_f2 (by omega) (by omega) (by omega) x4 h7 l7 cx (by rw [e9]; decide) hp) (sg_Flink (by omega) (by omega) (by omega) (by omega) h12 pk_us pk_us (by rw [pk_un cx]; exact e9) (sg_F0 (n := 0) (H c top _ _ _ _ _ _ _ ⟨f, dep, t, n, I', tt, E, ct, by rw [pk_un cx]; exact e9, fun j => ?_, Or.inr ⟨rfl, rfl, dc1⟩, fun z hz => ?_⟩)))⟩
    · rw [← (E x hx).1, fz, fz]
    · by_cases e : z = x
      · rw [e, pk_us]
      · rw [pk_un e, pk_un e]
        exact h9 z hz e
  · obtain ⟨d4, d5, d6, d7, d8, t', n', I', w9, hf⟩ := sg_fK (b0 := b0) (b1 := 0) (b3 := nI (0 + 1)) (a1 := a1) (a2 := a2) (a3 := a3) (a10 := a10) (a11 := a11) (a12 := a12) I xt dx x4 k2 h7 hl l9 hr
    have hwb : ∀ P : Int32 → St2 → Prop, P (-1) (b0, 0, nI top, nI (0 + 1), a1, a2, a3, a4, a5, a6, a7, a8, upd a9 x 1, a10, a11, a12) → wpX_wantedBy P (b0, 0, nI top, nI (0 + 1), a1, a2, a3, a4, a5, a6, a7, a8, upd a9 x 1, a10, a11, a12) (nI x) := by
      intro P hp
      by_cases two : K = 3 ∨ K = 4 ∨ K = 8
      · obtain ⟨r', q8', rt', r9⟩ := hr two
        exact sg_wb3 (by omega) (by omega) (by omega) (sg_kn x4 two) h7 l9 q8' (by rw [r9]; decide) (fun _ => hp) (fun g => absurd r9 g)
      · exact sg_wb5 (by omega) (by omega) (sg_kn5 x4 kk.1 kk.2.1 k2 two) h7 l9 hp
    refine ⟨1 + 1 + 1, sg_Ffin (by omega) (by omega) (by omega) h12 x9 x10 hwb (hf (upd a9 x 1)) (sg_Fcell (by omega) (by omega) (by omega) h12 w9 (sg_F0 (n := 0) (H x (top + 1) _ _ _ _ _ _ _ ⟨_, _, t', n', I', by omega, fun z hz => ⟨by rw [sg_un (by omega)]; exact (E z hz).1, by rw [sg_un (by omega)]; exact (E z hz).2⟩, by omega, w9, fun j => by rw [sg_un (by omega), (E x hx).1], Or.inl (by rw [sg_un (by omega), (E x hx).2]; exact Nat.le_refl _), fun z hz => ?_⟩)))⟩
    by_cases e : z = top
    · rw [e, pk_us]
    · rw [pk_un e]
      by_cases e' : z = x
      · rw [e', pk_us]
      · rw [pk_un e', pk_un e']
        exact h9 z (by omega) e'
theorem sg_force (I : sg_Inv K s top a4 a5 a6 a7 a8 f dep t n) (hx : x < top) (hd : dep x ≤ 16) (h9 : ∀ z, z < top → a9 z = 0)
    (H : ∀ c top' c4 c5 c6 c7 c8 c9 c12, sg_Done K s x top f dep c top' c4 c5 c6 c7 c8 c9 → post (nI c) (b0, 0, nI top', nI 0, a1, a2, a3, c4, c5, c6, c7, c8, c9, a10, a11, c12)) :
    wpX_force post (b0, 0, nI top, b3, a1, a2, a3, a4, a5, a6, a7, a8, a9, a10, a11, a12) (nI x) := by
  have tb := sg_top I
  unfold wpX_force
  dsimp only
  refine sg_push (sp := 0) (by omega) (by omega) ?_
  show ∃ N, wX_force_12 post N (-1) b0 0 (nI top) (nI (0 + 1)) a1 a2 a3 a4 a5 a6 a7 a8 a9 a10 a11 (upd a12 0 (nI x))
  have I0 := I
  obtain ⟨kk, c1, c2, c3, c4, c5, c6, c7, c8, c9⟩ := I0
  have E : ∀ z, z < top → f z = f z ∧ dep z = dep z := fun z _ => ⟨rfl, rfl⟩
  rcases c1 x hx with e | e | e | e
  · refine sg_doC (sp := 0) I hx hd e (by omega) pk_us (h9 x hx) (fun c4 c5 c6 c7 c8 t' n' I' w9 o => ⟨1, sg_F0 (n := 0) (H x (top + 1) _ _ _ _ _ _ _ ⟨_, _, t', n', I', by omega, fun z hz => ⟨sg_un (by omega), sg_un (by omega)⟩, by omega, w9, fun j => by rw [sg_un (by omega)], Or.inl (by rw [sg_un (by omega)]; exact Nat.le_refl _), fun z hz => ?_⟩)⟩)
    by_cases g : z = top
    · rw [g, pk_us]
    · rw [pk_un g]
      exact h9 z (by omega)
  · exact ⟨1 + 1, sg_Fcell (by omega) (by omega) (by omega) pk_us e (sg_F0 (n := 0) (H x top _ _ _ _ _ _ _ ⟨f, dep, t, n, I, Nat.le_refl _, E, hx, e, fun _ => rfl, Or.inl (Nat.le_refl _), h9⟩))⟩
  · obtain ⟨k2, xs, c, q7, ct, e9, cf, dc⟩ := c5 x hx e
    exact ⟨1 + 1, sg_Flink (by omega) (by omega) (by omega) (by omega) pk_us e q7 e9 (sg_F0 (n := 0) (H c top _ _ _ _ _ _ _ ⟨f, dep, t, n, I, Nat.le_refl _, E, ct, e9, cf, Or.inr ⟨k2, xs, dc⟩, h9⟩))⟩
  · exact sg_stL (f0 := f) (dep0 := dep) (top0 := top) ⟨f, dep, t, n, I, Nat.le_refl _, E, e, fun z hz _ => h9 z hz, pk_us⟩ hx hd
      (fun top' c4 c5 c6 c7 c8 c9 c12 l res' A q7 lt l9 => sg_stR A hx hd q7 lt l9
        (fun top' c4 c5 c6 c7 c8 c9 c12 res' A q7 lt l9 hr hc => sg_stF A hx hd q7 lt l9 hr hc H))
end
end
section
/-- the heap where the sequence s needs itself -/
def sg_Stk (K s top : Nat) (a4 a7 a8 a9 : Nat → Int32) : Prop :=
  (2 ≤ K ∧ K ≤ 8 ∧ s < 6 ∧ 6 ≤ top ∧ top ≤ 7) ∧ a4 s = nI K ∧ (∃ l, l < 6 ∧ a7 s = nI l ∧ (l = s ∨ (l ≠ s ∧ a8 s = nI s ∧ (K = 3 ∨ K = 4 ∨ K = 8) ∧ (a4 l = 9 ∨ (a4 l = 0 ∧ top = 6))))) ∧ (∀ z, z < 6 → a9 z = 0)
section
variable {b0 b3 : Int32} {a1 a2 a3 a4 a5 a6 a7 a8 a9 a10 a11 a12 : Nat → Int32} {K s top : Nat} {post : Int32 → St2 → Prop}
theorem sg_forceS (I : sg_Stk K s top a4 a7 a8 a9)
    (H : ∀ top' c4 c5 c6 c7 c8 c9 c12, sg_Stk K s top' c4 c7 c8 c9 → post (-1) (b0, 0, nI top', 0, a1, a2, a3, c4, c5, c6, c7, c8, c9, a10, a11, c12)) :
    wpX_force post (b0, 0, nI top, b3, a1, a2, a3, a4, a5, a6, a7, a8, a9, a10, a11, a12) (nI s) := by
  obtain ⟨⟨k2, k8, s6, t6, t7⟩, s4, ⟨l, l6, s7, hl⟩, h9⟩ := I
  have e9 : ¬ a4 s = 9 := by rw [s4]; exact sg_K9 k2 k8
  have e10 : ¬ a4 s = 10 := by rw [s4]; exact sg_K10 k2 k8
  have e0 : ¬ a4 s = 0 := by rw [s4]; exact sg_K0 k2 k8
  unfold wpX_force
  dsimp only
  refine sg_push (sp := 0) (by omega) (by omega) ?_
  show ∃ N, wX_force_12 post N (-1) b0 0 (nI top) (nI (0 + 1)) a1 a2 a3 a4 a5 a6 a7 a8 a9 a10 a11 (upd a12 0 (nI s))
  have hb : ¬ upd a9 s 1 s = 0 := by rw [pk_us]; decide
  have n9 : ∀ z, z < 6 → upd a9 s 0 z = 0 := by
    intro z hz
    rw [sg_usame (h9 s s6)]
    exact h9 z hz
  rcases hl with e | ⟨ls, s8, two, q | q⟩
  · rw [e] at s7
    exact ⟨1, sg_Fgive (n := 0) (w := s) (by omega) (by omega) (by omega) pk_us e9 e10 hb (fun P hp => sg_wbl (by omega) (by omega) e0 s7 e9 e10 hp) (H top a4 a5 a6 a7 a8 _ _ ⟨⟨k2, k8, s6, t6, t7⟩, s4, ⟨s, s6, s7, Or.inl rfl⟩, n9⟩)⟩
  · exact ⟨1, sg_Fgive (n := 0) (w := s) (by omega) (by omega) (by omega) pk_us e9 e10 hb (fun P hp => sg_wb3 (by omega) (by omega) (by omega) (sg_kn s4 two) s7 q s8 e10 (fun g => absurd g e9) (fun _ => hp)) (H top a4 a5 a6 a7 a8 _ _ ⟨⟨k2, k8, s6, t6, t7⟩, s4, ⟨l, l6, s7, Or.inr ⟨ls, s8, two, Or.inl q⟩⟩, n9⟩)⟩
  · obtain ⟨l0, tt⟩ := q
    subst tt
    have sl : s ≠ l := Ne.symm ls
    have lb : upd a9 s 1 l = 0 := by rw [pk_un ls]; exact h9 l l6
    have p4 : upd (upd a4 6 0) l 9 s = nI K := by rw [pk_un sl, pk_un (by omega)]; exact s4
    have p7 : upd (upd a7 6 0) l (nI 6) s = nI l := by rw [pk_un sl, pk_un (by omega)]; exact s7
    have p8 : upd a8 6 0 s = nI s := by rw [pk_un (by omega)]; exact s8
    refine ⟨1 + 1 + 1 + 1, sg_Fpush (w := l) (by omega) (by omega) (by omega) (by omega) pk_us e9 e10 lb (fun P hp => sg_wbl (by omega) (by omega) e0 s7 (by rw [l0]; decide) (by rw [l0]; decide) hp)
      (sg_Ffin (x := l) (by omega) (by omega) (by omega) pk_us (by rw [l0]; decide) (by rw [l0]; decide) (fun P hp => sg_wb0 (by omega) l0 hp) (fun P hp => sg_f0 (top := 6) (by omega) (by omega) l0 hp)
        (sg_Fcell (x := l) (top := 6 + 1) (by omega) (by omega) (by omega) pk_us pk_us
          (sg_Fgive (n := 0) (x := s) (w := s) (top := 6 + 1) (by omega) (by omega) (by omega) (by rw [pk_un (by omega), pk_us]) (by rw [p4]; exact sg_K9 k2 k8) (by rw [p4]; exact sg_K10 k2 k8) (by rw [pk_us]; decide)
            (fun P hp => sg_wb3 (by omega) (by omega) (by omega) (sg_kn p4 two) p7 pk_us p8 (by rw [p4]; exact sg_K10 k2 k8) (fun g => absurd g (by rw [p4]; exact sg_K9 k2 k8)) (fun _ => hp))
            (H (6 + 1) _ _ _ _ _ _ _ ⟨⟨k2, k8, s6, by omega, by omega⟩, p4, ⟨l, l6, p7, Or.inr ⟨ls, p8, two, Or.inl pk_us⟩⟩, fun z hz => ?_⟩))))⟩
    by_cases e : z = s
    · rw [e, pk_us]
    · rw [pk_un e, pk_un (by omega)]
      by_cases e' : z = l
      · rw [e', pk_us]
      · rw [pk_un e', pk_un e', pk_un e]
        exact h9 z hz
theorem sg_r18 {k : Nat} {g : Nat → Int32} (hk : k ≤ 15)
    (H : ∀ c top c4 c5 c6 c7 c8 c9 c12 f dep t n d3, sg_Inv K s top c4 c5 c6 c7 c8 f dep t n → (∀ j, f s j = g j) → (∀ z, z < top → c9 z = 0) → c < top → c5 c = g k → post (nI c) (b0, 0, nI top, d3, a1, a2, a3, c4, c5, c6, c7, c8, c9, a10, a11, c12)) :
    ∀ (d j : Nat), j + d = k → ∀ (x top : Nat) (c4 c5 c6 c7 c8 c9 c12 : Nat → Int32) (f : Nat → Nat → Int32) (dep t n : Nat → Nat) (d3 : Int32), sg_Inv K s top c4 c5 c6 c7 c8 f dep t n → (∀ j, f s j = g j) → (∀ z, z < top → c9 z = 0) → x < top → c4 x = 9 → (∀ i, f x i = g (j + i)) → dep x ≤ j + 1 →
      wX_reach_18 post (nI k) (d + 1) (nI x) (nI j) b0 0 (nI top) d3 a1 a2 a3 c4 c5 c6 c7 c8 c9 a10 a11 c12 := by
  intro d
  induction d with
  | zero =>
    intro j hj x top c4 c5 c6 c7 c8 c9 c12 f dep t n d3 I fs h9 xt x4 fx dx
    have tb := sg_top I
    have I0 := I
    obtain ⟨kk, i1, i2, _⟩ := I0
    refine pk_le k j (fun _ => H x top c4 c5 c6 c7 c8 c9 c12 f dep t n d3 I fs h9 xt ?_) (fun z => absurd z (by omega))
    obtain ⟨_, _, _, e, _⟩ := i2 x xt x4
    rw [e, fx 0, show j + 0 = k by omega]
  | succ d ih =>
    intro j hj x top c4 c5 c6 c7 c8 c9 c12 f dep t n d3 I fs h9 xt x4 fx dx
    have tb := sg_top I
    have I0 := I
    obtain ⟨kk, i1, i2, _⟩ := I0
    obtain ⟨l, l7, lt, _, lf, ld, ls⟩ := i2 x xt x4
    refine pk_le k j (fun z => absurd z (by omega)) (fun _ => br_f (nI_pos (by omega)) ⟨pk_in x 512 (by omega), ?_⟩)
    rw [nI_clamp (show x < 2 ^ 31 by omega), l7]
    refine sg_force I lt (by omega) h9 (fun c top' e4 e5 e6 e7 e8 e9 e12 D => ?_)
    obtain ⟨f', dep', t', n', I', tt, E, ct, q4, qf, qd, q9⟩ := D
    refine nm_r (nI_1 j) (ih (j + 1) (by omega) c top' e4 e5 e6 e7 e8 e9 e12 f' dep' t' n' (nI 0) I' (fun i => by rw [(E s (by omega)).1]; exact fs i) q9 ct q4 (fun i => ?_) ?_)
    · rw [qf i, lf i, fx (i + 1), show j + (i + 1) = j + 1 + i by omega]
    · rcases qd with q | q
      · omega
      · exact absurd q.2.1 (ls q.1)
end
/-- number, in a state -/
def sg_num (u : St2) : Nat → Int32 := u.2.2.2.2.2.2.2.2.1
/-- built, and s stands for g, or is stuck -/
def sg_B (st : Prop) (s : Nat) (g : Nat → Int32) (u : St2) : Prop := match u with
  | (b0, b1, b2, b3, a1, a2, a3, a4, a5, a6, a7, a8, a9, a10, a11, a12) => b0 = 1 ∧ b1 = 0 ∧ s < 6 ∧ a11 s = nI s ∧ ∃ top K, b2 = nI top ∧ ((st ∧ sg_Stk K s top a4 a7 a8 a9) ∨ (¬ st ∧ ∃ f dep t n, sg_Inv K s top a4 a5 a6 a7 a8 f dep t n ∧ (∀ j, f s j = g j) ∧ ∀ z, z < top → a9 z = 0))
/-- build leads there -/
def sg_Z (st : Prop) (s : Nat) (g : Nat → Int32) (u : St2) : Prop := ∀ post : St2 → Prop, (∀ u', sg_B st s g u' → post u') → wpX_build post u
theorem sg_BZ {st : Prop} {s : Nat} {g : Nat → Int32} {u : St2} (h : sg_B st s g u) : sg_Z st s g u := by
  intro post H
  have h0 := h
  obtain ⟨b0, b1, b2, b3, a1, a2, a3, a4, a5, a6, a7, a8, a9, a10, a11, a12⟩ := u
  obtain ⟨e0, _⟩ := h0
  exact br_f (by rw [e0]; decide) (H _ h)
theorem sg_reach {st : Prop} {s k : Nat} {g : Nat → Int32} {u : St2} {post : Int32 → St2 → Prop} (Z : sg_Z st s g u) (hk : k ≤ 15)
    (H : ∀ r u', sg_B st s g u' → (st → r = -1) → (¬ st → ∃ c, c < 512 ∧ r = nI c ∧ sg_num u' c = g k) → post r u') : wpX_reach post u (nI s) (nI k) := by
  obtain ⟨b0, b1, b2, b3, a1, a2, a3, a4, a5, a6, a7, a8, a9, a10, a11, a12⟩ := u
  unfold wpX_reach
  dsimp only
  refine Z _ (fun u' B => ?_)
  obtain ⟨b0, b1, b2, b3, a1, a2, a3, a4, a5, a6, a7, a8, a9, a10, a11, a12⟩ := u'
  obtain ⟨e0, e1, s6, r11, top, K, e2, hB⟩ := B
  subst e0
  subst e1
  subst e2
  refine ⟨pk_in s 6 s6, ?_⟩
  dsimp only
  rw [nI_clamp (show s < 2 ^ 31 by omega), r11]
  rcases hB with ⟨hst, S⟩ | ⟨hst, f, dep, t, n, I, fs, h9⟩
  · refine sg_forceS S (fun top' c4 c5 c6 c7 c8 c9 c12 S' => ?_)
    have P : post (-1) (1, 0, nI top', 0, a1, a2, a3, c4, c5, c6, c7, c8, c9, a10, a11, c12) := H _ _ ⟨rfl, rfl, s6, r11, top', K, rfl, Or.inl ⟨hst, S'⟩⟩ (fun _ => rfl) (fun q => absurd hst q)
    exact ⟨1, br_c (fun _ => P) (fun _ => br_t (by decide) P)⟩
  · have I0 := I
    obtain ⟨kk, _, _, _, _, _, _, ds, _, _⟩ := I0
    refine sg_force I (by omega) (by omega) h9 (fun c top' c4 c5 c6 c7 c8 c9 c12 D => ⟨k + 1, ?_⟩)
    obtain ⟨f', dep', t', n', I', tt, E, ct, q4, qf, qd, q9⟩ := D
    refine sg_r18 (g := g) hk (fun c top c4 c5 c6 c7 c8 c9 c12 f dep t n d3 I fs h9 ct c5g => ?_) k 0 (by omega) c top' c4 c5 c6 c7 c8 c9 c12 f' dep' t' n' (nI 0) I' (fun i => by rw [(E s (by omega)).1]; exact fs i) q9 ct q4 (fun i => ?_) ?_
    · have tb := sg_top I
      exact H _ _ ⟨rfl, rfl, s6, r11, top, K, rfl, Or.inr ⟨hst, f, dep, t, n, I, fs, h9⟩⟩ (fun q => absurd q hst) (fun _ => ⟨c, by omega, rfl, c5g⟩)
    · rw [qf i, fs i, Nat.zero_add]
    · rcases qd with q | q
      · omega
      · exact q.2.2
end
section
/-- a node as build makes it out of kind k, numbers a and b; zz: the second node -/
def sg_Nz (k a b zz n4 n5 n6 n7 n8 : Int32) : Prop :=
  (k = 0 ∧ n4 = 0 ∧ n5 = a ∧ n6 = b) ∨ (k = 1 ∧ n4 = 9 ∧ n5 = a ∧ n7 = b.toInt16.toInt32) ∨ (k = 5 ∧ n4 = 5 ∧ n7 = b.toInt16.toInt32 ∧ n8 = 0) ∨
  (¬ k = 0 ∧ ¬ k = 1 ∧ ¬ k = 5 ∧ n4 = k.toInt8.toInt32 ∧ n5 = 0 ∧ n7 = a.toInt16.toInt32 ∧ n8 = zz.toInt16.toInt32)
def sg_sec (k : Int32) : Prop := k = 1 ∨ k = 3 ∨ k = 4 ∨ k = 5 ∨ k = 7 ∨ k = 8
def sg_Nd (k a b n4 n5 n6 n7 n8 : Int32) : Prop := (sg_sec k ∧ sg_Nz k a b b n4 n5 n6 n7 n8) ∨ (¬ sg_sec k ∧ sg_Nz k a b 0 n4 n5 n6 n7 n8)
section
variable {b0 b1 b2 b3 : Int32} {a1 a2 a3 a4 a5 a6 a7 a8 a9 a10 a11 a12 : Nat → Int32}
theorem sg_wB {post : Int32 → Prop} {k : Int32} (H1 : sg_sec k → post 1) (H0 : ¬ sg_sec k → post 0) :
    wpX_worksOnB post (b0, b1, b2, b3, a1, a2, a3, a4, a5, a6, a7, a8, a9, a10, a11, a12) k := by
  unfold wpX_worksOnB
  dsimp only
  refine br_c (fun e => H1 (Or.inl e)) (fun e1 => br_c (fun e => H1 (Or.inr (Or.inl e))) (fun e2 => br_c (fun e => H1 (Or.inr (Or.inr (Or.inl e)))) (fun e3 => br_c (fun e => H1 (Or.inr (Or.inr (Or.inr (Or.inl e))))) (fun e4 => br_c (fun e => H1 (Or.inr (Or.inr (Or.inr (Or.inr (Or.inl e)))))) (fun e5 => br_c (fun e => H1 (Or.inr (Or.inr (Or.inr (Or.inr (Or.inr e)))))) (fun e6 => H0 ?_))))))
  rintro (e | e | e | e | e | e)
  · exact e1 e
  · exact e2 e
  · exact e3 e
  · exact e4 e
  · exact e5 e
  · exact e6 e
theorem sg_b67 {post : St2 → Prop} {J : Int32 → Int32 → Int32 → Int32 → Int32 → (Nat → Int32) → (Nat → Int32) → (Nat → Int32) → (Nat → Int32) → (Nat → Int32) → (Nat → Int32) → (Nat → Int32) → (Nat → Int32) → (Nat → Int32) → (Nat → Int32) → (Nat → Int32) → (Nat → Int32) → Prop} {i : Nat} {k a b zz : Int32} (hi : i < 6)
    (H : ∀ n4 n5 n6 n7 n8, sg_Nz k a b zz n4 n5 n6 n7 n8 → J (nI (i + 1)) b0 b1 (nI (i + 1)) b3 a1 a2 a3 (upd a4 i n4) (upd a5 i n5) (upd a6 i n6) (upd a7 i n7) (upd a8 i n8) (upd a9 i 0) a10 (upd a11 i (nI i)) a12) :
    wX_build_67 post J (nI i) k a b zz b0 b1 (nI i) b3 a1 a2 a3 a4 a5 a6 a7 a8 a9 a10 a11 a12 := by
  unfold wX_build_67
  rw [nI_clamp (show i < 2 ^ 31 by omega), sg_sh i (by omega)]
  refine ⟨pk_in i 6 hi, nm_e (br_c (fun e => ?_) (fun e => br_c (fun e' => ?_) (fun e' => br_c (fun e'' => ?_) (fun e'' => ?_))))⟩
  · exact sg_alloc (by omega) rfl rfl rfl (nm_r (nI_1 i) (H _ _ _ _ _ (Or.inl ⟨e, by decide, rfl, rfl⟩)))
  · exact sg_alloc (by omega) rfl rfl rfl (nm_r (nI_1 i) (H _ _ _ _ _ (Or.inr (Or.inl ⟨e', by decide, rfl, rfl⟩))))
  · exact sg_alloc (by omega) rfl rfl rfl (nm_r (nI_1 i) (H _ _ _ _ _ (Or.inr (Or.inr (Or.inl ⟨e'', by decide, rfl, by decide⟩)))))
  · exact sg_alloc (by omega) rfl rfl rfl (nm_r (nI_1 i) (H _ _ _ _ _ (Or.inr (Or.inr (Or.inr ⟨e, e', e'', rfl, rfl, rfl, rfl⟩)))))
theorem sg_b25 {post : St2 → Prop}
    (H : ∀ c4 c5 c6 c7 c8 c9 c11, (∀ z, z < 6 → sg_Nd (a1 z) (a2 z) (a3 z) (c4 z) (c5 z) (c6 z) (c7 z) (c8 z) ∧ c9 z = 0 ∧ c11 z = nI z) → post (1, 0, nI 6, b3, a1, a2, a3, c4, c5, c6, c7, c8, c9, a10, c11, a12)) :
    ∀ (d i : Nat), i + d = 6 → ∀ (c4 c5 c6 c7 c8 c9 c11 : Nat → Int32), (∀ z, z < i → sg_Nd (a1 z) (a2 z) (a3 z) (c4 z) (c5 z) (c6 z) (c7 z) (c8 z) ∧ c9 z = 0 ∧ c11 z = nI z) →
      wX_build_25 post (d + 1) (nI i) 1 0 (nI i) b3 a1 a2 a3 c4 c5 c6 c7 c8 c9 a10 c11 a12 := by
  intro d
  induction d with
  | zero =>
    intro i hi c4 c5 c6 c7 c8 c9 c11 h
    have e : i = 6 := by omega
    subst e
    exact pk_le 6 6 (fun _ => H _ _ _ _ _ _ _ h) (fun z => absurd z (by omega))
  | succ d ih =>
    intro i hi c4 c5 c6 c7 c8 c9 c11 h
    have vi : vp_in (nI i) 6 := pk_in i 6 (by omega)
    have step : ∀ zz, ((sg_sec (a1 i) ∧ zz = a3 i) ∨ (¬ sg_sec (a1 i) ∧ zz = 0)) → wX_build_67 post (wX_build_25 post (d + 1)) (nI i) (a1 i) (a2 i) (a3 i) zz 1 0 (nI i) b3 a1 a2 a3 c4 c5 c6 c7 c8 c9 a10 c11 a12 := by
      intro zz hz
      refine sg_b67 (by omega) (fun n4 n5 n6 n7 n8 N => ih (i + 1) (by omega) _ _ _ _ _ _ _ (fun z hz' => ?_))
      by_cases e : z = i
      · subst e
        rw [pk_us, pk_us, pk_us, pk_us, pk_us, pk_us, pk_us]
        refine ⟨?_, rfl, rfl⟩
        rcases hz with ⟨q, rfl⟩ | ⟨q, rfl⟩
        · exact Or.inl ⟨q, N⟩
        · exact Or.inr ⟨q, N⟩
      · rw [pk_un e, pk_un e, pk_un e, pk_un e, pk_un e, pk_un e, pk_un e]
        exact h z (by omega)
    refine pk_le 6 i (fun z => absurd z (by omega)) (fun _ => ⟨vi, nm_r (e' := a1 i) (by rw [nI_clamp (show i < 2 ^ 31 by omega)]) ⟨vi, nm_r (e' := a2 i) (by rw [nI_clamp (show i < 2 ^ 31 by omega)]) ⟨vi, nm_r (e' := a3 i) (by rw [nI_clamp (show i < 2 ^ 31 by omega)]) ?_⟩⟩⟩)
    exact sg_wB (fun q => br_f (by decide) (step _ (Or.inl ⟨q, rfl⟩))) (fun q => br_t rfl (step _ (Or.inr ⟨q, rfl⟩)))
theorem sg_build {post : St2 → Prop}
    (H : ∀ c4 c5 c6 c7 c8 c9 c11, (∀ z, z < 6 → sg_Nd (a1 z) (a2 z) (a3 z) (c4 z) (c5 z) (c6 z) (c7 z) (c8 z) ∧ c9 z = 0 ∧ c11 z = nI z) → post (1, 0, nI 6, b3, a1, a2, a3, c4, c5, c6, c7, c8, c9, a10, c11, a12)) :
    wpX_build post (0, b1, b2, b3, a1, a2, a3, a4, a5, a6, a7, a8, a9, a10, a11, a12) :=
  br_t rfl ⟨6 + 1, sg_b25 H 6 0 (by omega) _ _ _ _ _ _ _ (fun z hz => absurd hz (by omega))⟩
end
/-! the heap that build leaves -/
section
variable {a4 a5 a6 a7 a8 : Nat → Int32} {s : Nat}
theorem sg_I0 (hs : s < 6) (h : ∀ z, z < 6 → a4 z = 0) :
    sg_Inv 3 s 6 a4 a5 a6 a7 a8 (fun z j => a5 z + nI j * a6 z) (fun _ => 0) (fun i => i) (fun _ => 0) := by
  refine ⟨⟨by omega, by omega, hs, by omega⟩, fun x hx => Or.inl (h x hx), fun x hx e => ?_, fun x hx e j => rfl, fun x hx e => ⟨x, hx, rfl, rfl⟩, fun x hx e => ?_, fun x hx e => ?_, rfl, rfl, fun i hi => Nat.zero_le _⟩
  · rw [h x hx] at e
    exact absurd e (by decide)
  · rw [h x hx] at e
    exact absurd e (by decide)
  · rw [h x hx] at e
    exact absurd e (by decide)
theorem sg_I1 {b : Nat} {g : Nat → Int32} (hs : s < 6) (hb : b < 6) (h4 : a4 s = 9) (h5 : a5 s = g 0) (h7 : a7 s = nI b) (hg : ∀ j, (if b = s then g j else 0) = g (j + 1)) (h : ∀ z, z < 6 → z ≠ s → a4 z = 0 ∧ a5 z = 0 ∧ a6 z = 0) :
    sg_Inv 3 s 6 a4 a5 a6 a7 a8 (fun z j => if z = s then g j else 0) (fun _ => 0) (fun i => i) (fun _ => 0) := by
  refine ⟨⟨by omega, by omega, hs, by omega⟩, fun x hx => ?_, fun x hx e => ?_, fun x hx e j => ?_, fun x hx e => ⟨x, hx, rfl, rfl⟩, fun x hx e => ?_, fun x hx e => ?_, rfl, rfl, fun i hi => Nat.zero_le _⟩
  · by_cases q : x = s
    · rw [q]
      exact Or.inr (Or.inl h4)
    · exact Or.inl (h x hx q).1
  · by_cases q : x = s
    · rw [q]
      refine ⟨b, h7, hb, ?_, fun j => ?_, Nat.zero_le _, fun k => absurd k (by decide)⟩
      · show a5 s = if s = s then g 0 else 0
        rw [if_pos rfl, h5]
      · show (if b = s then g j else 0) = if s = s then g (j + 1) else 0
        rw [if_pos rfl, hg j]
    · rw [(h x hx q).1] at e
      exact absurd e (by decide)
  · by_cases q : x = s
    · rw [q, h4] at e
      exact absurd e (by decide)
    · show (if x = s then g j else 0) = _
      rw [if_neg q, (h x hx q).2.1, (h x hx q).2.2, Int32.mul_zero, Int32.add_zero]
  · by_cases q : x = s
    · rw [q, h4] at e
      exact absurd e (by decide)
    · rw [(h x hx q).1] at e
      exact absurd e (by decide)
  · by_cases q : x = s
    · rw [q, h4] at e
      exact absurd e (by decide)
    · rw [(h x hx q).1] at e
      exact absurd e (by decide)
theorem sg_Ik {K l r : Nat} (k2 : 2 ≤ K) (k8 : K ≤ 8) (hs : s < 6) (hl : l < 6) (hr : r < 6) (h4 : a4 s = nI K) (h7 : a7 s = nI l) (h8 : a8 s = nI r) (ls : l ≠ s) (rs : K = 3 ∨ K = 4 ∨ K = 8 → r ≠ s) (h6 : K = 6 → a5 s = 0) (h : ∀ z, z < 6 → z ≠ s → a4 z = 0 ∧ a5 z = 0 ∧ a6 z = 0) :
    sg_Inv K s 6 a4 a5 a6 a7 a8 (fun _ _ => 0) (fun _ => 0) (fun i => i) (fun _ => 0) := by
  have z9 : ∀ x, x < 6 → ¬ a4 x = 9 := by
    intro x hx e
    by_cases q : x = s
    · rw [q, h4] at e
      exact sg_K9 k2 k8 e
    · rw [(h x hx q).1] at e
      exact absurd e (by decide)
  have z10 : ∀ x, x < 6 → ¬ a4 x = 10 := by
    intro x hx e
    by_cases q : x = s
    · rw [q, h4] at e
      exact sg_K10 k2 k8 e
    · rw [(h x hx q).1] at e
      exact absurd e (by decide)
  have zK : ∀ x, x < 6 → a4 x = nI K → x = s := by
    intro x hx e
    by_cases q : x = s
    · exact q
    · rw [(h x hx q).1] at e
      exact absurd e.symm (sg_K0 k2 k8)
  refine ⟨⟨k2, k8, hs, by omega⟩, fun x hx => ?_, fun x hx e => absurd e (z9 x hx), fun x hx e j => ?_, fun x hx e => ⟨x, hx, rfl, rfl⟩, fun x hx e => absurd e (z10 x hx), fun x hx e => ?_, rfl, rfl, fun i hi => Nat.zero_le _⟩
  · by_cases q : x = s
    · rw [q]
      exact Or.inr (Or.inr (Or.inr h4))
    · exact Or.inl (h x hx q).1
  · by_cases q : x = s
    · rw [q, h4] at e
      exact absurd e (sg_K0 k2 k8)
    · show (0 : Int32) = _
      rw [(h x hx q).2.1, (h x hx q).2.2, Int32.mul_zero, Int32.add_zero]
  · rw [zK x hx e]
    exact ⟨l, r, h7, h8, hl, ls, Nat.zero_le _, hr, fun _ => Nat.zero_le _, rs, h6, fun _ => rfl, fun _ _ => rfl, fun y hy ey => zK y hy ey⟩
end
end
section
def sg_g (s k : Nat) (a b : Int32) : Nat → Int32 := fun j => if k = 0 then a + nI j * b else if k = 1 then (if j = 0 ∨ b = nI s then a else 0) else 0
def sg_st (s k : Nat) (a b : Int32) : Prop := ((k = 2 ∨ k = 3 ∨ k = 4 ∨ k = 6 ∨ k = 7 ∨ k = 8) ∧ a = nI s) ∨ ((k = 3 ∨ k = 4 ∨ k = 5 ∨ k = 8) ∧ b = nI s)
def sg_FA (k : Nat) (a : Int32) : Prop := k = 2 ∨ k = 3 ∨ k = 4 ∨ k = 6 ∨ k = 7 ∨ k = 8 → ∃ a', a' < 6 ∧ a = nI a'
def sg_FB (k : Nat) (b : Int32) : Prop := k = 1 ∨ k = 3 ∨ k = 4 ∨ k = 5 ∨ k = 7 ∨ k = 8 → ∃ b', b' < 6 ∧ b = nI b'
theorem sg_g1 {s : Nat} {a b : Int32} {j : Nat} : sg_g s 1 a b j = if j = 0 ∨ b = nI s then a else 0 := by
  unfold sg_g
  rw [if_neg (by omega), if_pos rfl]
theorem sg_secN {k : Nat} (hk : k < 512) : sg_sec (nI k) ↔ (k = 1 ∨ k = 3 ∨ k = 4 ∨ k = 5 ∨ k = 7 ∨ k = 8) := by
  constructor
  · rintro (e | e | e | e | e | e)
    · have := sg_inj (b := 1) e hk (by omega); omega
    · have := sg_inj (b := 3) e hk (by omega); omega
    · have := sg_inj (b := 4) e hk (by omega); omega
    · have := sg_inj (b := 5) e hk (by omega); omega
    · have := sg_inj (b := 7) e hk (by omega); omega
    · have := sg_inj (b := 8) e hk (by omega); omega
  · rintro (e | e | e | e | e | e)
    · rw [e]; exact Or.inl rfl
    · rw [e]; exact Or.inr (Or.inl rfl)
    · rw [e]; exact Or.inr (Or.inr (Or.inl rfl))
    · rw [e]; exact Or.inr (Or.inr (Or.inr (Or.inl rfl)))
    · rw [e]; exact Or.inr (Or.inr (Or.inr (Or.inr (Or.inl rfl))))
    · rw [e]; exact Or.inr (Or.inr (Or.inr (Or.inr (Or.inr rfl))))
theorem sg_NzN {k : Nat} {a b zz n4 n5 n6 n7 n8 : Int32} (hk : k ≤ 8) (h : sg_Nz (nI k) a b zz n4 n5 n6 n7 n8) :
    (k = 0 ∧ n4 = 0 ∧ n5 = a ∧ n6 = b) ∨ (k = 1 ∧ n4 = 9 ∧ n5 = a ∧ n7 = b.toInt16.toInt32) ∨ (k = 5 ∧ n4 = 5 ∧ n7 = b.toInt16.toInt32 ∧ n8 = 0) ∨
    (k ≠ 0 ∧ k ≠ 1 ∧ k ≠ 5 ∧ n4 = nI k ∧ n5 = 0 ∧ n7 = a.toInt16.toInt32 ∧ n8 = zz.toInt16.toInt32) := by
  rcases h with ⟨e, h⟩ | ⟨e, h⟩ | ⟨e, h⟩ | ⟨e0, e1, e5, h4, h⟩
  · exact Or.inl ⟨sg_inj (b := 0) e (by omega) (by omega), h⟩
  · exact Or.inr (Or.inl ⟨sg_inj (b := 1) e (by omega) (by omega), h⟩)
  · exact Or.inr (Or.inr (Or.inl ⟨sg_inj (b := 5) e (by omega) (by omega), h⟩))
  · rw [sg_by k (by omega)] at h4
    refine Or.inr (Or.inr (Or.inr ⟨fun q => e0 ?_, fun q => e1 ?_, fun q => e5 ?_, h4, h⟩))
    · rw [q]; rfl
    · rw [q]; rfl
    · rw [q]; rfl
section
variable {b1 b2 b3 : Int32} {a4 a5 a6 a7 a8 a9 a10 a11 a12 : Nat → Int32} {s : Nat}
/-- kinds 2 to 8: stuck or not -/
theorem sg_Zk {K l r : Nat} {st : Prop} {g : Nat → Int32} (k2 : 2 ≤ K) (k8 : K ≤ 8) (hs : s < 6) (hl : l < 6) (hr : r < 6) (h4 : a4 s = nI K) (h7 : a7 s = nI l) (h8 : a8 s = nI r) (h6 : K = 6 → a5 s = 0) (h : ∀ z, z < 6 → z ≠ s → a4 z = 0 ∧ a5 z = 0 ∧ a6 z = 0) (h9 : ∀ z, z < 6 → a9 z = 0)
    (hst : st ↔ (l = s ∨ ((K = 3 ∨ K = 4 ∨ K = 8) ∧ r = s))) (hg : ∀ j, g j = 0) :
    (st ∧ sg_Stk K s 6 a4 a7 a8 a9) ∨ (¬ st ∧ ∃ f dep t n, sg_Inv K s 6 a4 a5 a6 a7 a8 f dep t n ∧ (∀ j, f s j = g j) ∧ ∀ z, z < 6 → a9 z = 0) := by
  by_cases e : l = s
  · exact Or.inl ⟨hst.mpr (Or.inl e), ⟨k2, k8, hs, by omega, by omega⟩, h4, ⟨l, hl, h7, Or.inl e⟩, h9⟩
  · by_cases e' : (K = 3 ∨ K = 4 ∨ K = 8) ∧ r = s
    · refine Or.inl ⟨hst.mpr (Or.inr e'), ⟨k2, k8, hs, by omega, by omega⟩, h4, ⟨l, hl, h7, Or.inr ⟨e, ?_, e'.1, Or.inr ⟨(h l hl e).1, rfl⟩⟩⟩, h9⟩
      rw [h8, e'.2]
    · refine Or.inr ⟨fun q => ?_, _, _, _, _, sg_Ik k2 k8 hs hl hr h4 h7 h8 e (fun q q' => e' ⟨q, q'⟩) h6 h, fun j => (hg j).symm, h9⟩
      rcases hst.mp q with q | q
      · exact e q
      · exact e' q
theorem sg_Z0 {k : Nat} {a b : Int32} (hs : s < 6) (hk : k ≤ 8) (fa : sg_FA k a) (fb : sg_FB k b) :
    sg_Z (sg_st s k a b) s (sg_g s k a b) (0, b1, b2, b3, upd (fun _ => 0) s (nI k), upd (fun _ => 0) s a, upd (fun _ => 0) s b, a4, a5, a6, a7, a8, a9, a10, a11, a12) := by
  intro post H
  refine sg_build (fun c4 c5 c6 c7 c8 c9 c11 N => H _ ?_)
  have Nz : ∀ z, z < 6 → z ≠ s → c4 z = 0 ∧ c5 z = 0 ∧ c6 z = 0 := by
    intro z hz e
    have q := (N z hz).1
    rw [pk_un e, pk_un e, pk_un e] at q
    have q' : sg_Nz (nI 0) 0 0 0 (c4 z) (c5 z) (c6 z) (c7 z) (c8 z) := by
      rcases q with ⟨q, _⟩ | ⟨_, q⟩
      · have := (sg_secN (k := 0) (by omega)).mp q
        omega
      · exact q
    rcases sg_NzN (by omega) q' with ⟨_, q⟩ | ⟨q, _⟩ | ⟨q, _⟩ | ⟨q, _⟩
    · exact q
    · omega
    · omega
    · omega
  have h9 : ∀ z, z < 6 → c9 z = 0 := fun z hz => (N z hz).2.1
  have Ns := (N s hs).1
  rw [pk_us, pk_us, pk_us] at Ns
  have hB : ∃ K, (sg_st s k a b ∧ sg_Stk K s 6 c4 c7 c8 c9) ∨ (¬ sg_st s k a b ∧ ∃ f dep t n, sg_Inv K s 6 c4 c5 c6 c7 c8 f dep t n ∧ (∀ j, f s j = sg_g s k a b j) ∧ ∀ z, z < 6 → c9 z = 0) := by
    rcases Ns with ⟨sec, Ns⟩ | ⟨sec, Ns⟩
    · rw [sg_secN (by omega)] at sec
      obtain ⟨b', hb, eb⟩ := fb sec
      subst eb
      have sb := sg_sh b' (by omega)
      rcases sg_NzN hk Ns with ⟨e, _⟩ | ⟨e, n4, n5, n7⟩ | ⟨e, n4, n7, n8⟩ | ⟨e0, e1, e5, n4, n5, n7, n8⟩
      · omega
      · subst e
        rw [sb] at n7
        refine ⟨3, Or.inr ⟨?_, _, _, _, _, sg_I1 (g := sg_g s 1 a (nI b')) hs hb n4 ?_ n7 (fun j => ?_) Nz, fun j => ?_, h9⟩⟩
        · rintro (q | q)
          · omega
          · omega
        · rw [n5]
          unfold sg_g
          rw [if_neg (by omega), if_pos rfl, if_pos (Or.inl rfl)]
        · rw [sg_g1, sg_g1]
          by_cases q : b' = s
          · rw [if_pos q, if_pos (Or.inr (by rw [q])), if_pos (Or.inr (by rw [q]))]
          · rw [if_neg q, if_neg]
            rintro (z | z)
            · omega
            · exact q (sg_inj z (by omega) (by omega))
        · show (if s = s then _ else _) = _
          rw [if_pos rfl]
      · subst e
        rw [sb] at n7
        refine ⟨5, sg_Zk (r := 0) (by omega) (by omega) hs hb (by omega) n4 n7 n8 (fun q => by omega) Nz h9 ?_ (fun j => ?_)⟩
        · unfold sg_st
          constructor
          · rintro (q | q)
            · omega
            · exact Or.inl (sg_inj q.2 (by omega) (by omega))
          · rintro (q | q)
            · exact Or.inr ⟨by omega, by rw [q]⟩
            · omega
        · unfold sg_g
          rw [if_neg (by omega), if_neg (by omega)]
      · obtain ⟨a', ha, ea⟩ := fa (by omega)
        subst ea
        rw [sg_sh a' (by omega)] at n7
        rw [sb] at n8
        refine ⟨k, sg_Zk (by omega) (by omega) hs ha hb n4 n7 n8 (fun q => n5) Nz h9 ?_ (fun j => ?_)⟩
        · unfold sg_st
          constructor
          · rintro (q | q)
            · exact Or.inl (sg_inj q.2 (by omega) (by omega))
            · exact Or.inr ⟨by omega, sg_inj q.2 (by omega) (by omega)⟩
          · rintro (q | q)
            · exact Or.inl ⟨by omega, by rw [q]⟩
            · exact Or.inr ⟨by omega, by rw [q.2]⟩
        · unfold sg_g
          rw [if_neg (by omega), if_neg (by omega)]
    · rw [sg_secN (by omega)] at sec
      rcases sg_NzN hk Ns with ⟨e, n4, n5, n6⟩ | ⟨e, _⟩ | ⟨e, _⟩ | ⟨e0, e1, e5, n4, n5, n7, n8⟩
      · subst e
        refine ⟨3, Or.inr ⟨?_, _, _, _, _, sg_I0 hs (fun z hz => ?_), fun j => ?_, h9⟩⟩
        · rintro (q | q)
          · omega
          · omega
        · by_cases q : z = s
          · rw [q]
            exact n4
          · exact (Nz z hz q).1
        · show c5 s + nI j * c6 s = _
          rw [n5, n6]
          unfold sg_g
          rw [if_pos rfl]
      · omega
      · omega
      · obtain ⟨a', ha, ea⟩ := fa (by omega)
        subst ea
        rw [sg_sh a' (by omega)] at n7
        refine ⟨k, sg_Zk (r := 0) (by omega) (by omega) hs ha (by omega) n4 n7 n8 (fun q => n5) Nz h9 ?_ (fun j => ?_)⟩
        · unfold sg_st
          constructor
          · rintro (q | q)
            · exact Or.inl (sg_inj q.2 (by omega) (by omega))
            · omega
          · rintro (q | q)
            · exact Or.inl ⟨by omega, by rw [q]⟩
            · omega
        · unfold sg_g
          rw [if_neg (by omega), if_neg (by omega)]
  obtain ⟨K, hK⟩ := hB
  exact ⟨rfl, rfl, hs, (N s hs).2.2, 6, K, rfl, hK⟩
end
section
variable {b0 b1 b2 b3 : Int32} {a1 a2 a3 a4 a5 a6 a7 a8 a9 a10 a11 a12 : Nat → Int32} {s : Nat} {st : Prop} {g : Nat → Int32}
theorem sg_isS {post : Int32 → Prop} (hs : s < 6) (H : post 1) :
    wpX_isSequence post (b0, b1, b2, b3, a1, a2, a3, a4, a5, a6, a7, a8, a9, a10, a11, a12) (nI s) := by
  unfold wpX_isSequence
  dsimp only
  exact br_f (nI_pos (by omega)) (pk_lt 5 s (fun z => absurd z (by omega)) (fun _ => H))
theorem sg_isN {post : Int32 → Prop} {x : Int32} (h : x < 0 ∨ 5 < x) (H : post 0) :
    wpX_isSequence post (b0, b1, b2, b3, a1, a2, a3, a4, a5, a6, a7, a8, a9, a10, a11, a12) x := by
  unfold wpX_isSequence
  dsimp only
  refine br_c (fun _ => H) (fun e => br_c (fun _ => H) (fun e' => ?_))
  rcases h with h | h
  · exact absurd h e
  · exact absurd h e'
theorem sg_ready {post : Int32 → St2 → Prop} {p1 : Int32} (Z : sg_Z st s g (b0, b1, b2, b3, a1, a2, a3, a4, a5, a6, a7, a8, a9, a10, a11, a12)) (hs : s < 6)
    (H : ∀ r u', sg_Z st s g u' → ((r = 1 ∧ ¬ p1 < 0 ∧ p1 ≤ 15 ∧ ¬ st) ∨ (r = 0 ∧ (p1 < 0 ∨ ¬ p1 ≤ 15 ∨ st))) → post r u') :
    wpX_ready post (b0, b1, b2, b3, a1, a2, a3, a4, a5, a6, a7, a8, a9, a10, a11, a12) (nI s) p1 := by
  unfold wpX_ready
  dsimp only
  refine sg_isS hs (br_f (by decide) (br_c (fun e => H 0 _ Z (Or.inr ⟨rfl, Or.inl e⟩)) (fun e => br_c (fun e' => ?_) (fun e' => H 0 _ Z (Or.inr ⟨rfl, Or.inr (Or.inl e')⟩)))))
  obtain ⟨k, hk, ek⟩ := nI_of2 (M := 15) (n := 15) (by decide) e e'
  subst ek
  refine sg_reach Z hk (fun r u' B h1 h2 => ?_)
  by_cases q : st
  · rw [h1 q]
    exact br_t (by decide) (H 0 u' (sg_BZ B) (Or.inr ⟨rfl, Or.inr (Or.inr q)⟩))
  · obtain ⟨c, hc, rc, _⟩ := h2 q
    rw [rc]
    exact br_f (nI_pos (by omega)) (H 1 u' (sg_BZ B) (Or.inl ⟨rfl, e, e', q⟩))
theorem sg_element {post : Int32 → St2 → Prop} {p1 : Int32} (Z : sg_Z st s g (b0, b1, b2, b3, a1, a2, a3, a4, a5, a6, a7, a8, a9, a10, a11, a12)) (hs : s < 6)
    (H : ∀ r u', sg_Z st s g u' → ((∃ k, k ≤ 15 ∧ p1 = nI k ∧ ¬ st ∧ r = g k) ∨ (r = 0 ∧ (p1 < 0 ∨ ¬ p1 ≤ 15 ∨ st))) → post r u') :
    wpX_element post (b0, b1, b2, b3, a1, a2, a3, a4, a5, a6, a7, a8, a9, a10, a11, a12) (nI s) p1 := by
  unfold wpX_element
  dsimp only
  refine sg_isS hs (br_f (by decide) (br_c (fun e => H 0 _ Z (Or.inr ⟨rfl, Or.inl e⟩)) (fun e => br_c (fun e' => ?_) (fun e' => H 0 _ Z (Or.inr ⟨rfl, Or.inr (Or.inl e')⟩)))))
  obtain ⟨k, hk, ek⟩ := nI_of2 (M := 15) (n := 15) (by decide) e e'
  subst ek
  refine sg_reach Z hk (fun r u' B h1 h2 => ?_)
  by_cases q : st
  · rw [h1 q]
    exact br_f (by decide) (H 0 u' (sg_BZ B) (Or.inr ⟨rfl, Or.inr (Or.inr q)⟩))
  · obtain ⟨c, hc, rc, gc⟩ := h2 q
    rw [rc, nI_clamp (show c < 2 ^ 31 by omega)]
    exact br_t (nI_pos' (by omega)) ⟨pk_in c 512 hc, H _ u' (sg_BZ B) (Or.inl ⟨k, hk, rfl, q, gc⟩)⟩
theorem sg_k12 {post : Int32 → St2 → Prop} (q : ¬ st) (H : ∀ u', sg_Z st s g u' → post 16 u') :
    ∀ (d j : Nat), j + d = 16 → ∀ (b0 b1 b2 b3 : Int32) (a1 a2 a3 a4 a5 a6 a7 a8 a9 a10 a11 a12 : Nat → Int32), sg_Z st s g (b0, b1, b2, b3, a1, a2, a3, a4, a5, a6, a7, a8, a9, a10, a11, a12) →
      wX_known_12 post (nI s) (d + 1) (nI j) b0 b1 b2 b3 a1 a2 a3 a4 a5 a6 a7 a8 a9 a10 a11 a12 := by
  intro d
  induction d with
  | zero =>
    intro j hj b0 b1 b2 b3 a1 a2 a3 a4 a5 a6 a7 a8 a9 a10 a11 a12 Z
    have e : j = 16 := by omega
    subst e
    exact pk_le 16 16 (fun _ => H _ Z) (fun z => absurd z (by omega))
  | succ d ih =>
    intro j hj b0 b1 b2 b3 a1 a2 a3 a4 a5 a6 a7 a8 a9 a10 a11 a12 Z
    refine pk_le 16 j (fun z => absurd z (by omega)) (fun _ => sg_reach Z (by omega) (fun r u' B h1 h2 => ?_))
    obtain ⟨c, hc, rc, _⟩ := h2 q
    obtain ⟨b0, b1, b2, b3, a1, a2, a3, a4, a5, a6, a7, a8, a9, a10, a11, a12⟩ := u'
    rw [rc]
    exact br_f (nI_pos (by omega)) (nm_r (nI_1 j) (ih (j + 1) (by omega) _ _ _ _ _ _ _ _ _ _ _ _ _ _ _ _ (sg_BZ B)))
theorem sg_known {post : Int32 → St2 → Prop} (Z : sg_Z st s g (b0, b1, b2, b3, a1, a2, a3, a4, a5, a6, a7, a8, a9, a10, a11, a12)) (hs : s < 6)
    (H1 : ¬ st → ∀ u', sg_Z st s g u' → post 16 u') (H0 : st → ∀ u', sg_Z st s g u' → post 0 u') :
    wpX_known post (b0, b1, b2, b3, a1, a2, a3, a4, a5, a6, a7, a8, a9, a10, a11, a12) (nI s) := by
  unfold wpX_known
  dsimp only
  refine sg_isS hs (br_f (by decide) ?_)
  by_cases q : st
  · refine ⟨1, pk_le 16 0 (fun z => absurd z (by omega)) (fun _ => sg_reach (k := 0) Z (by omega) (fun r u' B h1 h2 => ?_))⟩
    obtain ⟨b0, b1, b2, b3, a1, a2, a3, a4, a5, a6, a7, a8, a9, a10, a11, a12⟩ := u'
    rw [h1 q]
    exact br_t (by decide) (H0 q _ (sg_BZ B))
  · exact ⟨16 + 1, sg_k12 q (H1 q) 16 0 (by omega) _ _ _ _ _ _ _ _ _ _ _ _ _ _ _ _ Z⟩
theorem sg_fa12 {post : Int32 → St2 → Prop} {v : Int32} (q : ¬ st) (g0 : ∀ j, g j = 0) (hv : ¬ v < 0) (H : ∀ u', post (-2) u') :
    ∀ (d j : Nat), j + d = 16 → ∀ (b0 b1 b2 b3 : Int32) (a1 a2 a3 a4 a5 a6 a7 a8 a9 a10 a11 a12 : Nat → Int32), sg_Z st s g (b0, b1, b2, b3, a1, a2, a3, a4, a5, a6, a7, a8, a9, a10, a11, a12) →
      wX_firstAbove_12 post (nI s) v (d + 1) (nI j) b0 b1 b2 b3 a1 a2 a3 a4 a5 a6 a7 a8 a9 a10 a11 a12 := by
  intro d
  induction d with
  | zero =>
    intro j hj b0 b1 b2 b3 a1 a2 a3 a4 a5 a6 a7 a8 a9 a10 a11 a12 Z
    have e : j = 16 := by omega
    subst e
    exact pk_le 16 16 (fun _ => H _) (fun z => absurd z (by omega))
  | succ d ih =>
    intro j hj b0 b1 b2 b3 a1 a2 a3 a4 a5 a6 a7 a8 a9 a10 a11 a12 Z
    refine pk_le 16 j (fun z => absurd z (by omega)) (fun _ => sg_reach Z (by omega) (fun r u' B h1 h2 => ?_))
    obtain ⟨c, hc, rc, gc⟩ := h2 q
    obtain ⟨b0, b1, b2, b3, a1, a2, a3, a4, a5, a6, a7, a8, a9, a10, a11, a12⟩ := u'
    rw [rc]
    have gc' : a5 (nI c).toNatClampNeg = 0 := by
      rw [nI_clamp (show c < 2 ^ 31 by omega)]
      exact gc.trans (g0 j)
    exact br_t (nI_pos' (by omega)) ⟨pk_in c 512 hc, br_t (by rw [gc']; exact Int32.not_lt.mp hv) (nm_r (nI_1 j) (ih (j + 1) (by omega) _ _ _ _ _ _ _ _ _ _ _ _ _ _ _ _ (sg_BZ B)))⟩
theorem sg_fabove {post : Int32 → St2 → Prop} {v : Int32} (Z : sg_Z st s g (b0, b1, b2, b3, a1, a2, a3, a4, a5, a6, a7, a8, a9, a10, a11, a12)) (hs : s < 6) (q : ¬ st) (g0 : ∀ j, g j = 0)
    (H1 : ¬ v < 0 → ∀ u', post (-2) u') (H0 : v < 0 → ∀ u', post 0 u') :
    wpX_firstAbove post (b0, b1, b2, b3, a1, a2, a3, a4, a5, a6, a7, a8, a9, a10, a11, a12) (nI s) v := by
  unfold wpX_firstAbove
  dsimp only
  refine sg_isS hs (br_f (by decide) ?_)
  by_cases hv : v < 0
  · refine ⟨1, pk_le 16 0 (fun z => absurd z (by omega)) (fun _ => sg_reach (k := 0) Z (by omega) (fun r u' B h1 h2 => ?_))⟩
    obtain ⟨c, hc, rc, gc⟩ := h2 q
    obtain ⟨b0, b1, b2, b3, a1, a2, a3, a4, a5, a6, a7, a8, a9, a10, a11, a12⟩ := u'
    rw [rc]
    have gc' : a5 (nI c).toNatClampNeg = 0 := by
      rw [nI_clamp (show c < 2 ^ 31 by omega)]
      exact gc.trans (g0 0)
    exact br_t (nI_pos' (by omega)) ⟨pk_in c 512 hc, br_f (by rw [gc']; exact Int32.not_le.mpr hv) (H0 hv _)⟩
  · exact ⟨16 + 1, sg_fa12 q g0 hv (H1 hv) 16 0 (by omega) _ _ _ _ _ _ _ _ _ _ _ _ _ _ _ _ Z⟩
end
end
section
def sg_in (x : Int32) : Prop := ¬ x < 0 ∧ ¬ 5 < x
def sg_fst (k : Int32) : Prop := k = 2 ∨ k = 3 ∨ k = 4 ∨ k = 6 ∨ k = 7 ∨ k = 8
def sg_fits (s k a b : Int32) : Prop := sg_in s ∧ ¬ k < 0 ∧ ¬ 8 < k ∧ (sg_fst k → sg_in a) ∧ (sg_sec k → sg_in b)
def sg_stuck (s k a b : Int32) : Prop := sg_fits s k a b ∧ ((sg_fst k ∧ a = s) ∨ (sg_sec k ∧ b = s ∧ ¬ k = 1 ∧ ¬ k = 7))
def sg_due (s k a b j x : Int32) : Prop :=
  (sg_fits s k a b ∧ k = 0 ∧ x = a + j * b) ∨ (sg_fits s k a b ∧ k = 1 ∧ (j ≤ 0 ∨ b = s) ∧ x = a) ∨ (sg_fits s k a b ∧ k = 1 ∧ ¬ j ≤ 0 ∧ ¬ b = s ∧ x = 0) ∨ (¬ (sg_fits s k a b ∧ (k = 0 ∨ k = 1)) ∧ x = 0)
theorem sg_fstN {k : Nat} (hk : k < 512) : sg_fst (nI k) ↔ (k = 2 ∨ k = 3 ∨ k = 4 ∨ k = 6 ∨ k = 7 ∨ k = 8) := by
  constructor
  · rintro (e | e | e | e | e | e)
    · have := sg_inj (b := 2) e hk (by omega); omega
    · have := sg_inj (b := 3) e hk (by omega); omega
    · have := sg_inj (b := 4) e hk (by omega); omega
    · have := sg_inj (b := 6) e hk (by omega); omega
    · have := sg_inj (b := 7) e hk (by omega); omega
    · have := sg_inj (b := 8) e hk (by omega); omega
  · rintro (e | e | e | e | e | e)
    · rw [e]; exact Or.inl rfl
    · rw [e]; exact Or.inr (Or.inl rfl)
    · rw [e]; exact Or.inr (Or.inr (Or.inl rfl))
    · rw [e]; exact Or.inr (Or.inr (Or.inr (Or.inl rfl)))
    · rw [e]; exact Or.inr (Or.inr (Or.inr (Or.inr (Or.inl rfl))))
    · rw [e]; exact Or.inr (Or.inr (Or.inr (Or.inr (Or.inr rfl))))
theorem sg_inN {x : Int32} (h : sg_in x) : ∃ j, j < 6 ∧ x = nI j := by
  obtain ⟨j, hj, e⟩ := nI_of2 (M := 5) (n := 5) (by decide) h.1 (Int32.not_lt.mp h.2)
  exact ⟨j, by omega, e⟩
theorem sg_inI {s : Nat} (hs : s < 6) : sg_in (nI s) := ⟨nI_pos (by omega), fun q => by
  have q' := (nI_ltI (a := 5) (b := s) (by omega) (by omega)).mp q
  omega⟩
theorem sg_inL {post : Int32 → Prop} {u : St0} {x : Int32} (H1 : sg_in x → post 1) (H0 : ¬ sg_in x → post 0) : wpL_in post u x := by
  unfold wpL_in
  exact br_c (fun e => H0 (fun q => q.1 e)) (fun e => br_c (fun e' => H0 (fun q => q.2 e')) (fun e' => H1 ⟨e, e'⟩))
section
variable {b0 b1 b2 b3 : Int32} {a1 a2 a3 a4 a5 a6 a7 a8 a9 a10 a11 a12 : Nat → Int32}
theorem sg_isq {post : Int32 → Prop} {x : Int32} (H1 : sg_in x → post 1) (H0 : ¬ sg_in x → post 0) :
    wpX_isSequence post (b0, b1, b2, b3, a1, a2, a3, a4, a5, a6, a7, a8, a9, a10, a11, a12) x := by
  unfold wpX_isSequence
  dsimp only
  exact br_c (fun e => H0 (fun q => q.1 e)) (fun e => br_c (fun e' => H0 (fun q => q.2 e')) (fun e' => H1 ⟨e, e'⟩))
theorem sg_wA {post : Int32 → Prop} {k : Int32} (h0 : ¬ k < 0) (h8 : k ≤ 8) (H1 : sg_fst k → post 1) (H0 : ¬ sg_fst k → post 0) :
    wpX_worksOnA post (b0, b1, b2, b3, a1, a2, a3, a4, a5, a6, a7, a8, a9, a10, a11, a12) k := by
  obtain ⟨j, hj, e⟩ := nI_of2 (M := 8) (n := 8) (by decide) h0 h8
  subst e
  rw [sg_fstN (by omega)] at H1 H0
  unfold wpX_worksOnA
  dsimp only
  exact pk_lt j 2 (fun z => H0 (by omega)) (fun z => pk_eq j 5 (fun e => H0 (by omega)) (fun e => H1 (by omega)))
theorem sg_define {post : Int32 → St2 → Prop} {p0 p1 p2 p3 : Int32} (HF : ¬ sg_fits p0 p1 p2 p3 → post 0 (b0, b1, b2, b3, a1, a2, a3, a4, a5, a6, a7, a8, a9, a10, a11, a12))
    (HT : sg_fits p0 p1 p2 p3 → post 1 (0, b1, b2, b3, upd a1 p0.toNatClampNeg p1.toInt8.toInt32, upd a2 p0.toNatClampNeg p2, upd a3 p0.toNatClampNeg p3, a4, a5, a6, a7, a8, a9, a10, a11, a12)) :
    wpX_define post (b0, b1, b2, b3, a1, a2, a3, a4, a5, a6, a7, a8, a9, a10, a11, a12) p0 p1 p2 p3 := by
  unfold wpX_define
  dsimp only
  refine sg_isq (fun s1 => br_f (by decide) (br_c (fun e => HF (fun q => q.2.1 e)) (fun k0 => br_c (fun k8 => ?_) (fun e => HF (fun q => e (Int32.not_lt.mp q.2.2.1)))))) (fun s0 => br_t rfl (HF (fun q => s0 q.1)))
  have k8' : ¬ 8 < p1 := Int32.not_lt.mpr k8
  have h57 : sg_fits p0 p1 p2 p3 → wX_define_57 post p0 p1 p2 p3 b0 b1 b2 b3 a1 a2 a3 a4 a5 a6 a7 a8 a9 a10 a11 a12 := by
    intro q
    obtain ⟨s, hs, es⟩ := sg_inN s1
    have vi : vp_in p0 6 := pk_in s 6 hs es
    unfold wX_define_57
    exact ⟨vi, nm_e ⟨vi, nm_e ⟨vi, nm_e (HT q)⟩⟩⟩
  have h38 : (sg_fst p1 → sg_in p2) → wX_define_38 post p0 p1 p2 p3 b0 b1 b2 b3 a1 a2 a3 a4 a5 a6 a7 a8 a9 a10 a11 a12 := by
    intro q
    unfold wX_define_38
    exact sg_wB (fun e => br_f (by decide) (sg_isq (fun t => br_f (by decide) (h57 ⟨s1, k0, k8', q, fun _ => t⟩)) (fun t => br_t rfl (HF (fun w => t (w.2.2.2.2 e)))))) (fun e => br_t rfl (h57 ⟨s1, k0, k8', q, fun z => absurd z e⟩))
  exact sg_wA k0 k8 (fun e => br_f (by decide) (sg_isq (fun t => br_f (by decide) (h38 (fun _ => t))) (fun t => br_t rfl (HF (fun w => t (w.2.2.2.1 e)))))) (fun e => br_t rfl (h38 (fun z => absurd z e)))
end
section
variable {post : Int32 → St0 → Prop} {mc ms kc ks : Nat} {x0 x1 x2 x3 x4 x5 x6 x7 x8 x9 x11 : Int32}
theorem sg_l0 (H : ∀ x6, ((x6 = 1 ∧ sg_fst x1) ∨ (x6 = 0 ∧ ¬ sg_fst x1)) → wL_lawOf_38 post mc ms x0 x1 x2 x3 x4 x5 x6 0 0) :
    wpL_lawOf post mc ms () x0 x1 x2 x3 x4 x5 := by
  have h1 : sg_fst x1 → wL_lawOf_33 post mc ms x0 x1 x2 x3 x4 x5 0 0 := fun e => H 1 (Or.inl ⟨rfl, e⟩)
  unfold wpL_lawOf
  refine br_c (fun e => h1 (Or.inl e)) (fun e1 => br_c (fun e => h1 (Or.inr (Or.inl e))) (fun e2 => br_c (fun e => h1 (Or.inr (Or.inr (Or.inl e)))) (fun e3 => br_c (fun e => h1 (Or.inr (Or.inr (Or.inr (Or.inl e))))) (fun e4 => br_c (fun e => h1 (Or.inr (Or.inr (Or.inr (Or.inr (Or.inl e)))))) (fun e5 => br_c (fun e => h1 (Or.inr (Or.inr (Or.inr (Or.inr (Or.inr e)))))) (fun e6 => H 0 (Or.inr ⟨rfl, ?_⟩)))))))
  rintro (e | e | e | e | e | e)
  · exact e1 e
  · exact e2 e
  · exact e3 e
  · exact e4 e
  · exact e5 e
  · exact e6 e
theorem sg_l38 (H : ∀ x7, ((x7 = 1 ∧ sg_sec x1) ∨ (x7 = 0 ∧ ¬ sg_sec x1)) → wL_lawOf_77 post mc ms x0 x1 x2 x3 x4 x5 x6 x7 kc ks) :
    wL_lawOf_38 post mc ms x0 x1 x2 x3 x4 x5 x6 kc ks := by
  have h1 : sg_sec x1 → wL_lawOf_72 post mc ms x0 x1 x2 x3 x4 x5 x6 kc ks := fun e => H 1 (Or.inl ⟨rfl, e⟩)
  unfold wL_lawOf_38
  refine br_c (fun e => h1 (Or.inl e)) (fun e1 => br_c (fun e => h1 (Or.inr (Or.inl e))) (fun e2 => br_c (fun e => h1 (Or.inr (Or.inr (Or.inl e)))) (fun e3 => br_c (fun e => h1 (Or.inr (Or.inr (Or.inr (Or.inl e))))) (fun e4 => br_c (fun e => h1 (Or.inr (Or.inr (Or.inr (Or.inr (Or.inl e)))))) (fun e5 => br_c (fun e => h1 (Or.inr (Or.inr (Or.inr (Or.inr (Or.inr e)))))) (fun e6 => H 0 (Or.inr ⟨rfl, ?_⟩)))))))
  rintro (e | e | e | e | e | e)
  · exact e1 e
  · exact e2 e
  · exact e3 e
  · exact e4 e
  · exact e5 e
  · exact e6 e
theorem sg_l77 (h6 : (x6 = 1 ∧ sg_fst x1) ∨ (x6 = 0 ∧ ¬ sg_fst x1)) (h7 : (x7 = 1 ∧ sg_sec x1) ∨ (x7 = 0 ∧ ¬ sg_sec x1))
    (H : ∀ x8, ((x8 = 1 ∧ sg_fits x0 x1 x2 x3) ∨ (x8 = 0 ∧ ¬ sg_fits x0 x1 x2 x3)) → wL_lawOf_125 post mc ms x0 x1 x2 x3 x4 x5 x6 x7 x8 kc ks) :
    wL_lawOf_77 post mc ms x0 x1 x2 x3 x4 x5 x6 x7 kc ks := by
  have hF : ¬ sg_fits x0 x1 x2 x3 → wL_lawOf_124 post mc ms x0 x1 x2 x3 x4 x5 x6 x7 kc ks := fun e => H 0 (Or.inr ⟨rfl, e⟩)
  have hT : sg_fits x0 x1 x2 x3 → wL_lawOf_120 post mc ms x0 x1 x2 x3 x4 x5 x6 x7 kc ks := fun e => H 1 (Or.inl ⟨rfl, e⟩)
  have h108 : sg_in x0 → ¬ x1 < 0 → ¬ 8 < x1 → (sg_fst x1 → sg_in x2) → wL_lawOf_108 post mc ms x0 x1 x2 x3 x4 x5 x6 x7 kc ks := by
    intro s1 k0 k8 q
    unfold wL_lawOf_108
    rcases h7 with ⟨e, t⟩ | ⟨e, t⟩
    · exact br_f (by rw [e]; decide) (sg_inL (fun w => br_f (by decide) (hT ⟨s1, k0, k8, q, fun _ => w⟩)) (fun w => br_t rfl (hF (fun z => w (z.2.2.2.2 t)))))
    · exact br_t e (hT ⟨s1, k0, k8, q, fun z => absurd z t⟩)
  unfold wL_lawOf_77
  refine sg_inL (fun s1 => br_f (by decide) (br_c (fun e => hF (fun z => z.2.1 e)) (fun k0 => br_c (fun e => hF (fun z => z.2.2.1 e)) (fun k8 => ?_)))) (fun s0 => br_t rfl (hF (fun z => s0 z.1)))
  rcases h6 with ⟨e, t⟩ | ⟨e, t⟩
  · exact br_f (by rw [e]; decide) (sg_inL (fun w => br_f (by decide) (h108 s1 k0 k8 (fun _ => w))) (fun w => br_t rfl (hF (fun z => w (z.2.2.2.1 t)))))
  · exact br_t e (h108 s1 k0 k8 (fun z => absurd z t))
theorem sg_l125 (h6 : (x6 = 1 ∧ sg_fst x1) ∨ (x6 = 0 ∧ ¬ sg_fst x1)) (h7 : (x7 = 1 ∧ sg_sec x1) ∨ (x7 = 0 ∧ ¬ sg_sec x1)) (h8 : (x8 = 1 ∧ sg_fits x0 x1 x2 x3) ∨ (x8 = 0 ∧ ¬ sg_fits x0 x1 x2 x3))
    (H : ∀ x9, ((x9 = 1 ∧ sg_stuck x0 x1 x2 x3) ∨ (x9 = 0 ∧ ¬ sg_stuck x0 x1 x2 x3)) → wL_lawOf_168 post mc ms x0 x1 x2 x3 x4 x5 x8 x9 kc ks) :
    wL_lawOf_125 post mc ms x0 x1 x2 x3 x4 x5 x6 x7 x8 kc ks := by
  have hF : ¬ sg_stuck x0 x1 x2 x3 → wL_lawOf_167 post mc ms x0 x1 x2 x3 x4 x5 x8 kc ks := fun e => H 0 (Or.inr ⟨rfl, e⟩)
  have hT : sg_stuck x0 x1 x2 x3 → wL_lawOf_163 post mc ms x0 x1 x2 x3 x4 x5 x8 kc ks := fun e => H 1 (Or.inl ⟨rfl, e⟩)
  have h142 : sg_fits x0 x1 x2 x3 → ¬ (sg_fst x1 ∧ x2 = x0) → wL_lawOf_142 post mc ms x0 x1 x2 x3 x4 x5 x7 x8 kc ks := by
    intro ff nf
    have no : ¬ (sg_sec x1 ∧ x3 = x0 ∧ ¬ x1 = 1 ∧ ¬ x1 = 7) → ¬ sg_stuck x0 x1 x2 x3 := by
      intro a b
      rcases b.2 with q | q
      · exact nf q
      · exact a q
    unfold wL_lawOf_142
    rcases h7 with ⟨e, t⟩ | ⟨e, t⟩
    · exact br_f (by rw [e]; decide) (br_c (fun g => br_c (fun g1 => hF (no (fun z => z.2.2.1 g1))) (fun g1 => br_c (fun g7 => hF (no (fun z => z.2.2.2 g7))) (fun g7 => hT ⟨ff, Or.inr ⟨t, g, g1, g7⟩⟩))) (fun g => hF (no (fun z => g z.2.1))))
    · exact br_t e (hF (no (fun z => t z.1)))
  unfold wL_lawOf_125
  rcases h8 with ⟨e8, ff⟩ | ⟨e8, ff⟩
  · refine br_f (by rw [e8]; decide) ?_
    rcases h6 with ⟨e, t⟩ | ⟨e, t⟩
    · exact br_f (by rw [e]; decide) (br_c (fun g => hT ⟨ff, Or.inl ⟨t, g⟩⟩) (fun g => h142 ff (fun z => g z.2)))
    · exact br_t e (h142 ff (fun z => t z.1))
  · exact br_t e8 (hF (fun z => ff z.1))
theorem sg_l168 (h8 : (x8 = 1 ∧ sg_fits x0 x1 x2 x3) ∨ (x8 = 0 ∧ ¬ sg_fits x0 x1 x2 x3))
    (H : ∀ x11, sg_due x0 x1 x2 x3 x4 x11 → wL_lawOf_235 post mc ms x0 x1 x2 x3 x4 x5 x8 x9 x11 kc ks) :
    wL_lawOf_168 post mc ms x0 x1 x2 x3 x4 x5 x8 x9 kc ks := by
  unfold wL_lawOf_168 wL_lawOf_188 wL_lawOf_184
  rcases h8 with ⟨e8, ff⟩ | ⟨e8, ff⟩
  · have n8 : ¬ x8 = 0 := by rw [e8]; decide
    refine br_f n8 (br_c (fun g0 => ?_) (fun g0 => br_c (fun g1 => ?_) (fun g1 => ?_)))
    · exact br_f n8 (br_t g0 (nm_e (br_f n8 (br_f (by rw [g0]; decide) (H _ (Or.inl ⟨ff, g0, rfl⟩))))))
    · exact br_f n8 (br_f g0 (br_f n8 (br_t g1 (br_c (fun q => H _ (Or.inr (Or.inl ⟨ff, g1, Or.inl q, rfl⟩))) (fun q => br_c (fun q' => H _ (Or.inr (Or.inl ⟨ff, g1, Or.inr q', rfl⟩))) (fun q' => H _ (Or.inr (Or.inr (Or.inl ⟨ff, g1, q, q', rfl⟩)))))))))
    · refine br_f n8 (br_f g0 (br_f n8 (br_f g1 (H _ (Or.inr (Or.inr (Or.inr ⟨fun z => ?_, rfl⟩)))))))
      rcases z.2 with z | z
      · exact g0 z
      · exact g1 z
  · exact br_t e8 (br_t e8 (br_t e8 (H _ (Or.inr (Or.inr (Or.inr ⟨fun z => ff z.1, rfl⟩))))))
theorem sg_l235 (H : ∀ x12, ((x12 = 1 ∧ ¬ x4 < 0 ∧ x4 ≤ 15) ∨ (x12 = 0 ∧ (x4 < 0 ∨ ¬ x4 ≤ 15))) → wL_lawOf_252 post mc ms x0 x1 x2 x3 x4 x5 x8 x9 x11 x12 kc ks) :
    wL_lawOf_235 post mc ms x0 x1 x2 x3 x4 x5 x8 x9 x11 kc ks := by
  unfold wL_lawOf_235 wL_lawOf_251
  exact br_c (fun e => H 0 (Or.inr ⟨rfl, Or.inl e⟩)) (fun e => br_c (fun e' => H 0 (Or.inr ⟨rfl, Or.inr (Int32.not_le.mpr e')⟩)) (fun e' => H 1 (Or.inl ⟨rfl, e, Int32.not_lt.mp e'⟩)))
end
end
section
section
variable {post : Int32 → St0 → Prop} {mc ms kc ks s : Nat} {x0 x1 x2 x3 x4 x5 x8 x9 x11 x12 z : Int32} {st : Prop} {g : Nat → Int32}
variable {b0 b1 b2 b3 : Int32} {a1 a2 a3 a4 a5 a6 a7 a8 a9 a10 a11 a12 : Nat → Int32}
/-! s is a sequence -/
theorem sg_i410 (hs : s < 6) (Z : sg_Z st s g (b0, b1, b2, b3, a1, a2, a3, a4, a5, a6, a7, a8, a9, a10, a11, a12)) (h8 : x8 = 0 → ¬ st ∧ ∀ j, g j = 0) (P : post 1 ()) :
    wL_lawOf_410 post mc ms (nI s) x5 x8 z z kc ks b0 b1 b2 b3 a1 a2 a3 a4 a5 a6 a7 a8 a9 a10 a11 a12 := by
  unfold wL_lawOf_410
  refine br_t rfl (br_c (fun e => ?_) (fun _ => P))
  obtain ⟨q, g0⟩ := h8 e
  refine sg_fabove Z hs q g0 (fun hv u' => ?_) (fun hv u' => ?_)
  · obtain ⟨c0, c1, c2, c3, d1, d2, d3, d4, d5, d6, d7, d8, d9, d10, d11, d12⟩ := u'
    exact sg_inL (fun _ => br_f (by decide) (br_t (Int32.not_lt.mp hv) (br_t rfl P))) (fun w => absurd (sg_inI hs) w)
  · obtain ⟨c0, c1, c2, c3, d1, d2, d3, d4, d5, d6, d7, d8, d9, d10, d11, d12⟩ := u'
    exact sg_inL (fun _ => br_f (by decide) (br_f (Int32.not_le.mpr hv) (br_t rfl P))) (fun w => absurd (sg_inI hs) w)
theorem sg_i377 (hs : s < 6) (Z : sg_Z st s g (b0, b1, b2, b3, a1, a2, a3, a4, a5, a6, a7, a8, a9, a10, a11, a12)) (h8 : x8 = 0 → ¬ st ∧ ∀ j, g j = 0) (h9 : (x9 = 1 ∧ st) ∨ (x9 = 0 ∧ ¬ st)) (P : post 1 ()) :
    wL_lawOf_377 post mc ms (nI s) x5 x8 x9 z z kc ks b0 b1 b2 b3 a1 a2 a3 a4 a5 a6 a7 a8 a9 a10 a11 a12 := by
  unfold wL_lawOf_377
  refine br_t rfl (sg_known Z hs (fun q u' Z' => ?_) (fun q u' Z' => ?_))
  · obtain ⟨c0, c1, c2, c3, d1, d2, d3, d4, d5, d6, d7, d8, d9, d10, d11, d12⟩ := u'
    have e9 : x9 = 0 := by
      rcases h9 with w | w
      · exact absurd w.2 q
      · exact w.1
    exact sg_inL (fun _ => br_f (by decide) (br_t e9 (sg_i410 hs Z' h8 P))) (fun w => absurd (sg_inI hs) w)
  · obtain ⟨c0, c1, c2, c3, d1, d2, d3, d4, d5, d6, d7, d8, d9, d10, d11, d12⟩ := u'
    have e9 : ¬ x9 = 0 := by
      rcases h9 with w | w
      · rw [w.1]
        decide
      · exact absurd q w.2
    exact sg_inL (fun _ => br_f (by decide) (br_f e9 (sg_i410 hs Z' h8 P))) (fun w => absurd (sg_inI hs) w)
theorem sg_i341 (hs : s < 6) (Z : sg_Z st s g (b0, b1, b2, b3, a1, a2, a3, a4, a5, a6, a7, a8, a9, a10, a11, a12)) (h8 : x8 = 0 → ¬ st ∧ ∀ j, g j = 0) (h9 : (x9 = 1 ∧ st) ∨ (x9 = 0 ∧ ¬ st)) (h12 : (x12 = 1 ∧ ¬ x4 < 0 ∧ x4 ≤ 15) ∨ (x12 = 0 ∧ (x4 < 0 ∨ ¬ x4 ≤ 15))) (h11 : ∀ k, k ≤ 15 → x4 = nI k → x11 = g k) (P : post 1 ()) :
    wL_lawOf_341 post mc ms (nI s) x4 x5 x8 x9 x11 x12 z z kc ks b0 b1 b2 b3 a1 a2 a3 a4 a5 a6 a7 a8 a9 a10 a11 a12 := by
  unfold wL_lawOf_341
  refine br_t rfl (sg_element Z hs (fun r u' Z' hr => ?_))
  obtain ⟨c0, c1, c2, c3, d1, d2, d3, d4, d5, d6, d7, d8, d9, d10, d11, d12⟩ := u'
  refine sg_inL (fun _ => br_f (by decide) ?_) (fun w => absurd (sg_inI hs) w)
  have h377 : ∀ z, wL_lawOf_377 post mc ms (nI s) x5 x8 x9 z z kc ks c0 c1 c2 c3 d1 d2 d3 d4 d5 d6 d7 d8 d9 d10 d11 d12 := fun z => sg_i377 hs Z' h8 h9 P
  rcases hr with ⟨k, hk, ek, q, er⟩ | ⟨er, hr⟩
  · have e12 : ¬ x12 = 0 := by
      rcases h12 with w | w
      · rw [w.1]
        decide
      · rcases w.2 with w | w
        · rw [ek] at w
          exact absurd w (nI_pos (by omega))
        · rw [ek] at w
          exact absurd (nI_le (a := k) (b := 15) hk (by omega)) w
    have e9 : x9 = 0 := by
      rcases h9 with w | w
      · exact absurd w.2 q
      · exact w.1
    refine br_f e12 (br_t e9 ?_)
    rw [er, h11 k hk ek]
    exact h377 _
  · subst er
    refine br_c (fun _ => h377 0) (fun e12 => br_c (fun e9 => ?_) (fun _ => h377 0))
    have w12 : ¬ x4 < 0 ∧ x4 ≤ 15 := by
      rcases h12 with w | w
      · exact w.2
      · exact absurd w.1 e12
    have w9 : ¬ st := by
      rcases h9 with w | w
      · rw [w.1] at e9
        exact absurd e9 (by decide)
      · exact w.2
    rcases hr with w | w | w
    · exact absurd w w12.1
    · exact absurd w12.2 w
    · exact absurd w w9
theorem sg_i306 (hs : s < 6) (Z : sg_Z st s g (b0, b1, b2, b3, a1, a2, a3, a4, a5, a6, a7, a8, a9, a10, a11, a12)) (h8 : x8 = 0 → ¬ st ∧ ∀ j, g j = 0) (h9 : (x9 = 1 ∧ st) ∨ (x9 = 0 ∧ ¬ st)) (h12 : (x12 = 1 ∧ ¬ x4 < 0 ∧ x4 ≤ 15) ∨ (x12 = 0 ∧ (x4 < 0 ∨ ¬ x4 ≤ 15))) (h11 : ∀ k, k ≤ 15 → x4 = nI k → x11 = g k) (P : post 1 ()) :
    wL_lawOf_306 post mc ms (nI s) x4 x5 x8 x9 x11 x12 z z kc ks b0 b1 b2 b3 a1 a2 a3 a4 a5 a6 a7 a8 a9 a10 a11 a12 := by
  unfold wL_lawOf_306
  refine br_t rfl (sg_ready Z hs (fun r u' Z' hr => ?_))
  obtain ⟨c0, c1, c2, c3, d1, d2, d3, d4, d5, d6, d7, d8, d9, d10, d11, d12⟩ := u'
  refine sg_inL (fun _ => br_f (by decide) ?_) (fun w => absurd (sg_inI hs) w)
  have h341 : ∀ z, wL_lawOf_341 post mc ms (nI s) x4 x5 x8 x9 x11 x12 z z kc ks c0 c1 c2 c3 d1 d2 d3 d4 d5 d6 d7 d8 d9 d10 d11 d12 := fun z => sg_i341 hs Z' h8 h9 h12 h11 P
  rcases hr with ⟨er, k0, k15, q⟩ | ⟨er, hr⟩
  · have e12 : ¬ x12 = 0 := by
      rcases h12 with w | w
      · rw [w.1]
        decide
      · rcases w.2 with w | w
        · exact absurd w k0
        · exact absurd k15 w
    have e9 : x9 = 0 := by
      rcases h9 with w | w
      · exact absurd w.2 q
      · exact w.1
    refine br_f e12 (br_t e9 ?_)
    rw [er]
    exact h341 _
  · subst er
    refine br_c (fun _ => h341 0) (fun e12 => br_c (fun e9 => ?_) (fun _ => h341 0))
    have w12 : ¬ x4 < 0 ∧ x4 ≤ 15 := by
      rcases h12 with w | w
      · exact w.2
      · exact absurd w.1 e12
    have w9 : ¬ st := by
      rcases h9 with w | w
      · rw [w.1] at e9
        exact absurd e9 (by decide)
      · exact w.2
    rcases hr with w | w | w
    · exact absurd w w12.1
    · exact absurd w12.2 w
    · exact absurd w w9
/-! s is none -/
theorem sg_o306 (ni : ¬ sg_in x0) (h8 : x8 = 0) (P : post 1 ()) :
    wL_lawOf_306 post mc ms x0 x4 x5 x8 x9 x11 x12 z z kc ks b0 b1 b2 b3 a1 a2 a3 a4 a5 a6 a7 a8 a9 a10 a11 a12 := by
  have h410 : wL_lawOf_410 post mc ms x0 x5 x8 (-1) (-1) kc ks b0 b1 b2 b3 a1 a2 a3 a4 a5 a6 a7 a8 a9 a10 a11 a12 := by
    unfold wL_lawOf_410 wpX_firstAbove
    dsimp only
    exact br_t rfl (br_t h8 (sg_isq (fun w => absurd w ni) (fun _ => br_t rfl (sg_inL (fun w => absurd w ni) (fun _ => br_t rfl (br_t rfl P))))))
  have h377 : wL_lawOf_377 post mc ms x0 x5 x8 x9 0 0 kc ks b0 b1 b2 b3 a1 a2 a3 a4 a5 a6 a7 a8 a9 a10 a11 a12 := by
    unfold wL_lawOf_377 wpX_known
    dsimp only
    exact br_t rfl (sg_isq (fun w => absurd w ni) (fun _ => br_t rfl (sg_inL (fun w => absurd w ni) (fun _ => br_t rfl h410))))
  have h341 : wL_lawOf_341 post mc ms x0 x4 x5 x8 x9 x11 x12 0 0 kc ks b0 b1 b2 b3 a1 a2 a3 a4 a5 a6 a7 a8 a9 a10 a11 a12 := by
    unfold wL_lawOf_341 wpX_element
    dsimp only
    exact br_t rfl (sg_isq (fun w => absurd w ni) (fun _ => br_t rfl (sg_inL (fun w => absurd w ni) (fun _ => br_t rfl h377))))
  unfold wL_lawOf_306 wpX_ready
  dsimp only
  exact br_t rfl (sg_isq (fun w => absurd w ni) (fun _ => br_t rfl (sg_inL (fun w => absurd w ni) (fun _ => br_t rfl h341))))
end
section
variable {post : Int32 → St0 → Prop} {mc ms kc ks : Nat} {x0 x1 x2 x3 x4 x5 x8 x9 x11 x12 : Int32}
theorem sg_l252 (h8 : (x8 = 1 ∧ sg_fits x0 x1 x2 x3) ∨ (x8 = 0 ∧ ¬ sg_fits x0 x1 x2 x3)) (h9 : (x9 = 1 ∧ sg_stuck x0 x1 x2 x3) ∨ (x9 = 0 ∧ ¬ sg_stuck x0 x1 x2 x3)) (h11 : sg_due x0 x1 x2 x3 x4 x11) (h12 : (x12 = 1 ∧ ¬ x4 < 0 ∧ x4 ≤ 15) ∨ (x12 = 0 ∧ (x4 < 0 ∨ ¬ x4 ≤ 15))) (P : post 1 ()) :
    wL_lawOf_252 post 1072 17136 x0 x1 x2 x3 x4 x5 x8 x9 x11 x12 0 0 := by
  unfold wL_lawOf_252
  refine ⟨by decide, by decide, 12, 3624, by decide, by decide, ?_⟩
  unfold wpX_init
  dsimp only
  refine ⟨by decide, by decide, by decide, by decide, by decide, by decide, by decide, by decide, by decide, by decide, by decide, by decide, by decide, by decide, by decide, by decide, by decide, by decide, by decide, by decide, by decide, by decide, by decide, by decide, ?_⟩
  refine sg_define (fun nf => ?_) (fun ff => ?_)
  · have e8 : x8 = 0 := by
      rcases h8 with w | w
      · exact absurd w.2 nf
      · exact w.1
    refine br_t e8.symm ?_
    unfold wpX_kind
    dsimp only
    refine sg_isq (fun hi => br_f (by decide) ?_) (fun ni => br_t rfl (sg_inL (fun w => absurd w ni) (fun _ => br_t rfl (sg_o306 ni e8 P))))
    obtain ⟨s, hs, es⟩ := sg_inN hi
    subst es
    have Z := sg_Z0 (b1 := 0) (b2 := 0) (b3 := 0) (a4 := fun _ => 0) (a5 := fun _ => 0) (a6 := fun _ => 0) (a7 := fun _ => 0) (a8 := fun _ => 0) (a9 := fun _ => 0) (a10 := fun _ => 0) (a11 := fun _ => 0) (a12 := fun _ => 0) (k := 0) (a := 0) (b := 0) hs (by omega) (fun q => by omega) (fun q => by omega)
    rw [show nI 0 = 0 from rfl, show upd (fun _ => (0 : Int32)) s 0 = fun _ => 0 from sg_usame rfl] at Z
    have ns : ¬ sg_st s 0 0 0 := by
      rintro (q | q)
      · omega
      · omega
    have g0 : ∀ j, sg_g s 0 0 0 j = 0 := by
      intro j
      unfold sg_g
      rw [if_pos rfl, Int32.mul_zero, Int32.add_zero]
    have e11 : x11 = 0 := by
      rcases h11 with w | w | w | w
      · exact absurd w.1 nf
      · exact absurd w.1 nf
      · exact absurd w.1 nf
      · exact w.2
    have e9 : x9 = 0 := by
      rcases h9 with w | w
      · exact absurd w.2.1 nf
      · exact w.1
    refine ⟨pk_in s 6 hs, sg_inL (fun _ => br_f (by decide) (br_t e8 (sg_i306 hs Z (fun _ => ⟨ns, g0⟩) (Or.inr ⟨e9, ns⟩) h12 (fun k _ _ => by rw [e11, g0]) P))) (fun w => absurd hi w)⟩
  · have e8 : x8 = 1 := by
      rcases h8 with w | w
      · exact w.1
      · exact absurd ff w.2
    refine br_t e8.symm ?_
    obtain ⟨s, hs, es⟩ := sg_inN ff.1
    obtain ⟨k, hk, ek⟩ := nI_of2 (M := 8) (n := 8) (by decide) ff.2.1 (Int32.not_lt.mp ff.2.2.1)
    subst es
    subst ek
    have FA : sg_FA k x2 := fun q => sg_inN (ff.2.2.2.1 ((sg_fstN (by omega)).mpr q))
    have FB : sg_FB k x3 := fun q => sg_inN (ff.2.2.2.2 ((sg_secN (by omega)).mpr q))
    have Z := sg_Z0 (b1 := 0) (b2 := 0) (b3 := 0) (a4 := fun _ => 0) (a5 := fun _ => 0) (a6 := fun _ => 0) (a7 := fun _ => 0) (a8 := fun _ => 0) (a9 := fun _ => 0) (a10 := fun _ => 0) (a11 := fun _ => 0) (a12 := fun _ => 0) hs hk FA FB
    have hst : sg_stuck (nI s) (nI k) x2 x3 ↔ sg_st s k x2 x3 := by
      unfold sg_stuck sg_st
      rw [sg_fstN (by omega), sg_secN (by omega)]
      constructor
      · rintro ⟨_, q | q⟩
        · exact Or.inl q
        · refine Or.inr ⟨?_, q.2.1⟩
          have n1 : k ≠ 1 := fun e => q.2.2.1 (by rw [e]; rfl)
          have n7 : k ≠ 7 := fun e => q.2.2.2 (by rw [e]; rfl)
          have := q.1
          omega
      · rintro (q | q)
        · exact ⟨ff, Or.inl q⟩
        · refine ⟨ff, Or.inr ⟨?_, q.2, fun e => ?_, fun e => ?_⟩⟩
          · have := q.1
            omega
          · have e' := sg_inj (b := 1) e (by omega) (by omega)
            have := q.1
            omega
          · have e' := sg_inj (b := 7) e (by omega) (by omega)
            have := q.1
            omega
    rw [hst] at h9
    have e11 : ∀ j, j ≤ 15 → x4 = nI j → x11 = sg_g s k x2 x3 j := by
      intro j hj ej
      rcases h11 with ⟨_, k0, e⟩ | ⟨_, k1, q, e⟩ | ⟨_, k1, q, q', e⟩ | ⟨nk, e⟩
      · have ek := sg_inj (b := 0) k0 (by omega) (by omega)
        subst ek
        unfold sg_g
        rw [if_pos rfl, e, ej]
      · have ek := sg_inj (b := 1) k1 (by omega) (by omega)
        subst ek
        rw [sg_g1, if_pos, e]
        rcases q with q | q
        · rw [ej] at q
          exact Or.inl (Nat.le_zero.mp ((nI_leI (a := j) (b := 0) (by omega) (by omega)).mp q))
        · exact Or.inr q
      · have ek := sg_inj (b := 1) k1 (by omega) (by omega)
        subst ek
        rw [sg_g1, if_neg, e]
        rintro (w | w)
        · apply q
          rw [ej, w]
          decide
        · exact q' w
      · unfold sg_g
        rw [if_neg, if_neg, e]
        · exact fun w => nk ⟨ff, Or.inr (by rw [w]; rfl)⟩
        · exact fun w => nk ⟨ff, Or.inl (by rw [w]; rfl)⟩
    rw [nI_clamp (show s < 2 ^ 31 by omega), sg_by k (by omega)]
    unfold wpX_kind
    dsimp only
    refine sg_isq (fun hi => br_f (by decide) ⟨pk_in s 6 hs, ?_⟩) (fun ni => absurd ff.1 ni)
    rw [nI_clamp (show s < 2 ^ 31 by omega), pk_us]
    exact sg_inL (fun _ => br_f (by decide) (br_f (by rw [e8]; decide) (sg_i306 hs Z (fun w => absurd (e8.symm.trans w) (by decide)) h9 h12 e11 P))) (fun w => absurd hi w)
theorem sg_lawOf (P : post 1 ()) : wpL_lawOf post 1072 17136 () x0 x1 x2 x3 x4 x5 :=
  sg_l0 (fun _ h6 => sg_l38 (fun _ h7 => sg_l77 h6 h7 (fun _ h8 => sg_l125 h6 h7 h8 (fun _ h9 => sg_l168 h8 (fun _ h11 => sg_l235 (fun _ h12 => sg_l252 h8 h9 h11 h12 P))))))
theorem sg_cell {post : Int32 → Prop} {L : Nat} {xs : Nat → Int32} (i : Nat) (hL : L ≤ 6) (hi : i < 6) (H : ∀ r, post r) : wpL_cellAt post L xs () (nI i) := by
  unfold wpL_cellAt
  exact pk_le L i (fun _ => H 0) (fun z => ⟨pk_in i L z, H _⟩)
end
theorem i_vc (xs : Nat → Int32) (L : Nat) (hL : L ≤ 6) : wpL_law (fun r => r = 1) L xs :=
  sg_cell 0 hL (by omega) (fun _ => sg_cell 1 hL (by omega) (fun _ => sg_cell 2 hL (by omega) (fun _ => sg_cell 3 hL (by omega) (fun _ => sg_cell 4 hL (by omega) (fun _ => sg_cell 5 hL (by omega) (fun _ => ⟨1072, 17136, by decide, by decide, sg_lawOf rfl⟩))))))
end
