section
def ww_z : Nat → Int32 := fun _ => 0
def ww_tb (t : Nat → Int32) (x0 x1 x2 x3 x4 x5 : Int32) : Nat → Int32
  | 0 => x0
  | 1 => x1
  | 2 => x2
  | 3 => x3
  | 4 => x4
  | 5 => x5
  | j + 6 => t (j + 6)
theorem ww_eta (a : Nat → Int32) : ww_tb a (a 0) (a 1) (a 2) (a 3) (a 4) (a 5) = a := by
  funext j
  match j with
  | 0 => rfl
  | 1 => rfl
  | 2 => rfl
  | 3 => rfl
  | 4 => rfl
  | 5 => rfl
  | j + 6 => rfl
theorem ww_zz : ww_tb ww_z 0 0 0 0 0 0 = fun _ => 0 := ww_eta ww_z
theorem ww_u0 {t : Nat → Int32} {x0 x1 x2 x3 x4 x5 v y : Int32} {k : Nat} (hk : k = 0) (hv : v = y) : upd (ww_tb t x0 x1 x2 x3 x4 x5) k v = ww_tb t y x1 x2 x3 x4 x5 := by
  subst hk
  subst hv
  funext j
  match j with
  | 0 => exact pk_us
  | 1 => exact pk_un (by decide)
  | 2 => exact pk_un (by decide)
  | 3 => exact pk_un (by decide)
  | 4 => exact pk_un (by decide)
  | 5 => exact pk_un (by decide)
  | j + 6 => exact pk_un (by omega)
theorem ww_u1 {t : Nat → Int32} {x0 x1 x2 x3 x4 x5 v y : Int32} {k : Nat} (hk : k = 1) (hv : v = y) : upd (ww_tb t x0 x1 x2 x3 x4 x5) k v = ww_tb t x0 y x2 x3 x4 x5 := by
  subst hk
  subst hv
  funext j
  match j with
  | 0 => exact pk_un (by decide)
  | 1 => exact pk_us
  | 2 => exact pk_un (by decide)
  | 3 => exact pk_un (by decide)
  | 4 => exact pk_un (by decide)
  | 5 => exact pk_un (by decide)
  | j + 6 => exact pk_un (by omega)
theorem ww_u2 {t : Nat → Int32} {x0 x1 x2 x3 x4 x5 v y : Int32} {k : Nat} (hk : k = 2) (hv : v = y) : upd (ww_tb t x0 x1 x2 x3 x4 x5) k v = ww_tb t x0 x1 y x3 x4 x5 := by
  subst hk
  subst hv
  funext j
  match j with
  | 0 => exact pk_un (by decide)
  | 1 => exact pk_un (by decide)
  | 2 => exact pk_us
  | 3 => exact pk_un (by decide)
  | 4 => exact pk_un (by decide)
  | 5 => exact pk_un (by decide)
  | j + 6 => exact pk_un (by omega)
theorem ww_u3 {t : Nat → Int32} {x0 x1 x2 x3 x4 x5 v y : Int32} {k : Nat} (hk : k = 3) (hv : v = y) : upd (ww_tb t x0 x1 x2 x3 x4 x5) k v = ww_tb t x0 x1 x2 y x4 x5 := by
  subst hk
  subst hv
  funext j
  match j with
  | 0 => exact pk_un (by decide)
  | 1 => exact pk_un (by decide)
  | 2 => exact pk_un (by decide)
  | 3 => exact pk_us
  | 4 => exact pk_un (by decide)
  | 5 => exact pk_un (by decide)
  | j + 6 => exact pk_un (by omega)
theorem ww_u4 {t : Nat → Int32} {x0 x1 x2 x3 x4 x5 v y : Int32} {k : Nat} (hk : k = 4) (hv : v = y) : upd (ww_tb t x0 x1 x2 x3 x4 x5) k v = ww_tb t x0 x1 x2 x3 y x5 := by
  subst hk
  subst hv
  funext j
  match j with
  | 0 => exact pk_un (by decide)
  | 1 => exact pk_un (by decide)
  | 2 => exact pk_un (by decide)
  | 3 => exact pk_un (by decide)
  | 4 => exact pk_us
  | 5 => exact pk_un (by decide)
  | j + 6 => exact pk_un (by omega)
theorem ww_u5 {t : Nat → Int32} {x0 x1 x2 x3 x4 x5 v y : Int32} {k : Nat} (hk : k = 5) (hv : v = y) : upd (ww_tb t x0 x1 x2 x3 x4 x5) k v = ww_tb t x0 x1 x2 x3 x4 y := by
  subst hk
  subst hv
  funext j
  match j with
  | 0 => exact pk_un (by decide)
  | 1 => exact pk_un (by decide)
  | 2 => exact pk_un (by decide)
  | 3 => exact pk_un (by decide)
  | 4 => exact pk_un (by decide)
  | 5 => exact pk_us
  | j + 6 => exact pk_un (by omega)
theorem ww_far {x : Nat} (h : x < 2 ^ 31) : ¬ nI x ≤ (-1000000 : Int32) := by
  intro w
  have q := Int32.le_iff_toInt_le.mp w
  rw [nI_toInt h] at q
  have e : (-1000000 : Int32).toInt = -1000000 := by decide
  omega
theorem ww_near {x : Nat} (h : x < 2 ^ 31) : (-1000000 : Int32) ≤ nI x := by
  apply Int32.le_iff_toInt_le.mpr
  rw [nI_toInt h]
  have e : (-1000000 : Int32).toInt = -1000000 := by decide
  omega
theorem ww_qq : (-1000000 : Int32) ≤ (-1000000 : Int32) := by decide
theorem ww_b8 : ∀ c, c < 51 → (nI c).toInt8.toInt32 = nI c := by decide +kernel
theorem ww_at {P : Int32 → Prop} {x y : Int32} (e : x = y) (h : P y) : P x := by
  rw [e]
  exact h
end
section
section
variable {post : St2 → Prop} {k l o h : Int32} {a1 a2 a3 a4 a5 a6 a7 a8 a9 a10 a11 a12 t tg : Nat → Int32}
theorem ww_live (H : post (k, 17, o, h, a1, a2, (ww_tb ww_z 16 0 0 0 1 0), a4, a5, a6, a7, a8, a9, a10, a11, a12)) : wpX_findLive post (k, l, o, h, a1, a2, (ww_tb ww_z 16 0 0 0 1 0), a4, a5, a6, a7, a8, a9, a10, a11, a12) := by
  repeat first
    | refine br_f (by decide +kernel) ?_
    | refine br_t (by decide +kernel) ?_
    | refine And.intro (vp_in_iff.mpr (by decide +kernel)) ?_
    | refine nm_r (e' := 17) (by decide +kernel) ?_
    | refine nm_e ?_
    | refine Exists.intro 8 ?_
    | exact H
theorem ww_dom57 {J : Int32 → (Nat → Int32) → (Nat → Int32) → (Nat → Int32) → (Nat → Int32) → (Nat → Int32) → (Nat → Int32) → (Nat → Int32) → (Nat → Int32) → (Nat → Int32) → (Nat → Int32) → (Nat → Int32) → (Nat → Int32) →  Prop} {x1 : Int32} (H : J (x1 + 1) a1 a2 (ww_tb ww_z 16 0 0 0 1 0) (ww_tb ww_z 1 0 0 0 17 0) a5 a6 a7 a8 a9 a10 a11 a12) : ∃ n, wX_findDominators_57 post J x1 k 17 o h n 1 a1 a2 (ww_tb ww_z 16 0 0 0 1 0) (ww_tb ww_z 1 0 0 0 17 0) a5 a6 a7 a8 a9 a10 a11 a12 := by
  repeat first
    | refine br_f (by decide +kernel) ?_
    | refine br_t (by decide +kernel) ?_
    | refine And.intro (vp_in_iff.mpr (by decide +kernel)) ?_
    | refine nm_r (e' := 1) (by decide +kernel) ?_
    | refine nm_r (e' := 4) (by decide +kernel) ?_
    | refine nm_r (ww_u4 (y := 17) (by decide +kernel) (by decide +kernel)) ?_
    | refine nm_e ?_
    | refine Exists.intro 8 ?_
    | exact H
theorem ww_dom49 (H : post (k, 17, o, h, a1, a2, (ww_tb ww_z 16 0 0 0 1 0), (ww_tb ww_z 1 0 0 0 17 0), a5, a6, a7, a8, a9, a10, a11, a12)) : ∃ n, wX_findDominators_49 post k 17 o h n 0 a1 a2 (ww_tb ww_z 16 0 0 0 1 0) (ww_tb ww_z 1 0 0 0 17 0) a5 a6 a7 a8 a9 a10 a11 a12 :=
  pk_loop (σ := Unit) (fun n i _ => wX_findDominators_49 post k 17 o h n (nI i) a1 a2 (ww_tb ww_z 16 0 0 0 1 0) (ww_tb ww_z 1 0 0 0 17 0) a5 a6 a7 a8 a9 a10 a11 a12) (fun _ _ => True) 36 0 () (by omega) trivial
    (fun n _ _ => pk_le 36 36 (fun _ => H) (fun w => absurd w (by omega)))
    (fun n i _ hi _ hw => pk_le 36 i (fun w => absurd w (by omega)) (fun _ => ww_dom57 (by rw [nI_1]; exact hw () trivial)))
theorem ww_dom (H : post (k, 17, o, h, a1, a2, (ww_tb ww_z 16 0 0 0 1 0), (ww_tb ww_z 1 0 0 0 17 0), a5, a6, a7, a8, a9, a10, a11, a12)) : wpX_findDominators post (k, 17, o, h, a1, a2, (ww_tb ww_z 16 0 0 0 1 0), (ww_tb ww_z 0 0 0 0 0 0), a5, a6, a7, a8, a9, a10, a11, a12) := by
  repeat first
    | refine br_f (by decide +kernel) ?_
    | refine br_t (by decide +kernel) ?_
    | refine And.intro (vp_in_iff.mpr (by decide +kernel)) ?_
    | exact nm_r (ww_u0 (y := 1) (by decide +kernel) (by decide +kernel)) (ww_dom49 H)
    | refine nm_r (ww_u0 (y := 17) (by decide +kernel) (by decide +kernel)) ?_
    | refine nm_r (ww_u1 (y := 0) (by decide +kernel) (by decide +kernel)) ?_
    | refine nm_r (ww_u2 (y := 0) (by decide +kernel) (by decide +kernel)) ?_
    | refine nm_r (ww_u3 (y := 0) (by decide +kernel) (by decide +kernel)) ?_
    | refine nm_r (ww_u4 (y := 17) (by decide +kernel) (by decide +kernel)) ?_
    | refine nm_r (ww_u5 (y := 0) (by decide +kernel) (by decide +kernel)) ?_
    | refine nm_e ?_
    | refine Exists.intro 8 ?_
    | exact H
theorem ww_split (H : post (k, 17, o, h, a1, a2, (ww_tb ww_z 16 0 0 0 1 0), (ww_tb ww_z 1 0 0 0 17 0), (ww_tb ww_z 16 0 0 0 0 0), (ww_tb ww_z 16 0 0 0 0 0), a7, a8, a9, a10, a11, a12)) : wpX_splitEdges post (k, 17, o, h, a1, a2, (ww_tb ww_z 16 0 0 0 1 0), (ww_tb ww_z 1 0 0 0 17 0), (ww_tb ww_z 0 0 0 0 0 0), (ww_tb ww_z 0 0 0 0 0 0), a7, a8, a9, a10, a11, a12) := by
  repeat first
    | refine br_f (by decide +kernel) ?_
    | refine br_t (by decide +kernel) ?_
    | refine And.intro (vp_in_iff.mpr (by decide +kernel)) ?_
    | refine nm_r (ww_u0 (y := 0) (by decide +kernel) (by decide +kernel)) ?_
    | refine nm_r (ww_u1 (y := 0) (by decide +kernel) (by decide +kernel)) ?_
    | refine nm_r (ww_u2 (y := 0) (by decide +kernel) (by decide +kernel)) ?_
    | refine nm_r (ww_u3 (y := 0) (by decide +kernel) (by decide +kernel)) ?_
    | refine nm_r (ww_u4 (y := 0) (by decide +kernel) (by decide +kernel)) ?_
    | refine nm_r (ww_u5 (y := 0) (by decide +kernel) (by decide +kernel)) ?_
    | refine nm_r (ww_u0 (y := 16) (by decide +kernel) (by decide +kernel)) ?_
    | refine nm_e ?_
    | refine Exists.intro 8 ?_
    | exact H
theorem ww_before0 {post : Int32 → Prop} (H : post 0) : wpX_before post (k, 17, o, h, a1, a2, a3, a4, (ww_tb ww_z 16 0 0 0 0 0), a6, a7, a8, a9, a10, a11, a12) 0 := by
  repeat first
    | refine br_f (by decide +kernel) ?_
    | refine br_t (by decide +kernel) ?_
    | refine And.intro (vp_in_iff.mpr (by decide +kernel)) ?_
    | refine nm_e ?_
    | refine Exists.intro 8 ?_
    | exact H
theorem ww_before4 {post : Int32 → Prop} (H : post 1) : wpX_before post (k, 17, o, h, a1, a2, a3, a4, (ww_tb ww_z 16 0 0 0 0 0), a6, a7, a8, a9, a10, a11, a12) 4 := by
  repeat first
    | refine br_f (by decide +kernel) ?_
    | refine br_t (by decide +kernel) ?_
    | refine And.intro (vp_in_iff.mpr (by decide +kernel)) ?_
    | refine nm_r (e' := 1) (by decide +kernel) ?_
    | refine nm_e ?_
    | refine Exists.intro 8 ?_
    | exact H
theorem ww_size {post : Int32 → Prop} (H : post 2) : wpX_sizeOf post () 17 := by
  repeat first
    | refine br_f (by decide +kernel) ?_
    | refine br_t (by decide +kernel) ?_
    | refine And.intro (vp_in_iff.mpr (by decide +kernel)) ?_
    | refine nm_r (e' := 1) (by decide +kernel) ?_
    | refine nm_r (e' := 2) (by decide +kernel) ?_
    | refine nm_r (e' := 0) (by decide +kernel) ?_
    | refine nm_e ?_
    | refine Exists.intro 8 ?_
    | exact H
theorem ww_lo0 {post : Int32 → Prop} (H : post 17) : wpX_loopOf post (k, 17, o, h, a1, a2, (ww_tb ww_z 16 0 0 0 1 0), a4, a5, (ww_tb ww_z 16 0 0 0 0 0), a7, a8, a9, a10, a11, a12) 0 := by
  repeat first
    | refine br_f (by decide +kernel) ?_
    | refine br_t (by decide +kernel) ?_
    | refine And.intro (vp_in_iff.mpr (by decide +kernel)) ?_
    | refine nm_r (e' := 17) (by decide +kernel) ?_
    | refine nm_e ?_
    | refine Exists.intro 8 ?_
    | exact H
theorem ww_sort (H : post (k, 17, 2, h, a1, a2, a3, a4, (ww_tb ww_z 16 0 0 0 0 0), a6, a7, (ww_tb ww_z 0 4 0 0 0 0), a9, a10, a11, a12)) : wpX_sort post (k, 17, o, h, a1, a2, a3, a4, (ww_tb ww_z 16 0 0 0 0 0), a6, a7, (ww_tb ww_z 0 0 0 0 0 0), a9, a10, a11, a12) := by
  repeat first
    | refine br_f (by decide +kernel) ?_
    | refine br_t (by decide +kernel) ?_
    | refine And.intro (vp_in_iff.mpr (by decide +kernel)) ?_
    | refine ww_before0 ?_
    | refine ww_before4 ?_
    | refine nm_r (ww_u0 (y := 0) (by decide +kernel) (by decide +kernel)) ?_
    | refine nm_r (ww_u1 (y := 4) (by decide +kernel) (by decide +kernel)) ?_
    | refine nm_r (e' := 1) (by decide +kernel) ?_
    | refine nm_r (e' := 2) (by decide +kernel) ?_
    | refine nm_r (e' := 4) (by decide +kernel) ?_
    | refine nm_r (e' := 17) (by decide +kernel) ?_
    | refine nm_e ?_
    | refine Exists.intro 8 ?_
    | exact H
theorem ww_heads (H : post (k, 17, o, 1, a1, a2, a3, a4, a5, a6, (ww_tb ww_z 17 0 0 0 0 0), a8, (ww_tb ww_z 0 0 0 0 0 0), a10, a11, a12)) : wpX_listHeads post (k, 17, o, h, a1, a2, a3, a4, a5, a6, (ww_tb ww_z 17 0 0 0 0 0), a8, (ww_tb ww_z 0 0 0 0 0 0), a10, a11, a12) := by
  repeat first
    | refine br_f (by decide +kernel) ?_
    | refine br_t (by decide +kernel) ?_
    | refine And.intro (vp_in_iff.mpr (by decide +kernel)) ?_
    | refine ww_size ?_
    | refine nm_r (ww_u0 (y := 0) (by decide +kernel) (by decide +kernel)) ?_
    | refine nm_r (e' := 1) (by decide +kernel) ?_
    | refine nm_e ?_
    | refine Exists.intro 8 ?_
    | exact H
theorem ww_l27 (H : post (k, 17, 2, 1, a1, a2, (ww_tb ww_z 16 0 0 0 1 0), a4, (ww_tb ww_z 16 0 0 0 0 0), (ww_tb ww_z 16 0 0 0 0 0), (ww_tb ww_z 17 0 0 0 0 0), (ww_tb ww_z 0 4 0 0 0 0), (ww_tb ww_z 0 0 0 0 0 0), a10, a11, a12)) : ∃ n, wX_learn_27 post k 17 o h n 0 a1 a2 (ww_tb ww_z 16 0 0 0 1 0) a4 (ww_tb ww_z 16 0 0 0 0 0) (ww_tb ww_z 16 0 0 0 0 0) (ww_tb ww_z 0 0 0 0 0 0) (ww_tb ww_z 0 0 0 0 0 0) (ww_tb ww_z 0 0 0 0 0 0) a10 a11 a12 := by
  repeat first
    | refine ww_lo0 ?_
    | refine br_f (by decide +kernel) ?_
    | refine br_t (by decide +kernel) ?_
    | refine And.intro (vp_in_iff.mpr (by decide +kernel)) ?_
    | refine ww_sort ?_
    | refine ww_heads ?_
    | refine nm_r (ww_u0 (y := 17) (by decide +kernel) (by decide +kernel)) ?_
    | refine nm_r (ww_u1 (y := 0) (by decide +kernel) (by decide +kernel)) ?_
    | refine nm_r (ww_u2 (y := 0) (by decide +kernel) (by decide +kernel)) ?_
    | refine nm_r (ww_u3 (y := 0) (by decide +kernel) (by decide +kernel)) ?_
    | refine nm_r (ww_u4 (y := 0) (by decide +kernel) (by decide +kernel)) ?_
    | refine nm_r (ww_u5 (y := 0) (by decide +kernel) (by decide +kernel)) ?_
    | refine nm_e ?_
    | refine Exists.intro 8 ?_
    | exact H
theorem ww_learn (H : post (1, 17, 2, 1, a1, a2, (ww_tb ww_z 16 0 0 0 1 0), (ww_tb ww_z 1 0 0 0 17 0), (ww_tb ww_z 16 0 0 0 0 0), (ww_tb ww_z 16 0 0 0 0 0), (ww_tb ww_z 17 0 0 0 0 0), (ww_tb ww_z 0 4 0 0 0 0), (ww_tb ww_z 0 0 0 0 0 0), a10, a11, a12)) : wpX_learn post (0, l, o, h, a1, a2, (ww_tb ww_z 16 0 0 0 1 0), (ww_tb ww_z 0 0 0 0 0 0), (ww_tb ww_z 0 0 0 0 0 0), (ww_tb ww_z 0 0 0 0 0 0), (ww_tb ww_z 0 0 0 0 0 0), (ww_tb ww_z 0 0 0 0 0 0), (ww_tb ww_z 0 0 0 0 0 0), a10, a11, a12) := by
  refine br_t rfl ?_
  refine ww_live ?_
  refine ww_dom ?_
  refine ww_split ?_
  exact ww_l27 H
end
end
section
section
variable {post : St2 → Prop} {k l o h : Int32} {a1 a2 a3 a4 a5 a6 a7 a8 a9 a10 a11 a12 t tg : Nat → Int32}
theorem ww_beginT {r0 r1 r2 r3 r4 r5 : Int32} (H : post (k, l, o, h, a1, a2, a3, a4, a5, a6, a7, a8, a9, a10, a11, (ww_tb t (-1000000) (-1000000) (-1000000) (-1000000) (-1000000) (-1000000)))) : wpX_begin post (k, l, o, h, a1, a2, a3, a4, a5, a6, a7, a8, a9, a10, a11, (ww_tb t r0 r1 r2 r3 r4 r5)) := by
  repeat first
    | refine br_f (by decide +kernel) ?_
    | refine br_t (by decide +kernel) ?_
    | refine And.intro (vp_in_iff.mpr (by decide +kernel)) ?_
    | refine nm_r (ww_u0 (y := (-1000000)) (by decide +kernel) (by decide +kernel)) ?_
    | refine nm_r (ww_u1 (y := (-1000000)) (by decide +kernel) (by decide +kernel)) ?_
    | refine nm_r (ww_u2 (y := (-1000000)) (by decide +kernel) (by decide +kernel)) ?_
    | refine nm_r (ww_u3 (y := (-1000000)) (by decide +kernel) (by decide +kernel)) ?_
    | refine nm_r (ww_u4 (y := (-1000000)) (by decide +kernel) (by decide +kernel)) ?_
    | refine nm_r (ww_u5 (y := (-1000000)) (by decide +kernel) (by decide +kernel)) ?_
    | refine nm_e ?_
    | refine Exists.intro 8 ?_
    | exact H
theorem ww_begin (H : post (k, l, o, h, a1, a2, a3, a4, a5, a6, a7, a8, a9, a10, a11, (ww_tb a12 (-1000000) (-1000000) (-1000000) (-1000000) (-1000000) (-1000000)))) : wpX_begin post (k, l, o, h, a1, a2, a3, a4, a5, a6, a7, a8, a9, a10, a11, a12) := by
  have e := ww_beginT (t := a12) (r0 := a12 0) (r1 := a12 1) (r2 := a12 2) (r3 := a12 3) (r4 := a12 4) (r5 := a12 5) H
  rw [ww_eta a12] at e
  exact e
theorem ww_ll0 {post : Int32 → Prop} {b : Int32} (H : post (-1)) : wpX_largestLoop post (k, 17, o, 1, a1, a2, a3, a4, a5, a6, (ww_tb ww_z 17 0 0 0 0 0), a8, (ww_tb ww_z 0 0 0 0 0 0), a10, a11, a12) b 17 0 := by
  repeat first
    | refine br_f (by decide +kernel) ?_
    | refine br_t (by decide +kernel) ?_
    | refine And.intro (vp_in_iff.mpr (by decide +kernel)) ?_
    | refine nm_r (e' := 0) (by decide +kernel) ?_
    | refine nm_e ?_
    | refine Exists.intro 8 ?_
    | exact H
theorem ww_ll10 {post : Int32 → Prop} (H : post 0) : wpX_largestLoop post (k, 17, o, 1, a1, a2, a3, a4, a5, a6, (ww_tb ww_z 17 0 0 0 0 0), a8, (ww_tb ww_z 0 0 0 0 0 0), a10, a11, a12) 0 17 (-1) := by
  repeat first
    | refine br_f (by decide +kernel) ?_
    | refine br_t (by decide +kernel) ?_
    | refine And.intro (vp_in_iff.mpr (by decide +kernel)) ?_
    | refine nm_r (e' := 0) (by decide +kernel) ?_
    | refine nm_e ?_
    | refine Exists.intro 8 ?_
    | exact H
theorem ww_ll14 {post : Int32 → Prop} (H : post 0) : wpX_largestLoop post (k, 17, o, 1, a1, a2, a3, a4, a5, a6, (ww_tb ww_z 17 0 0 0 0 0), a8, (ww_tb ww_z 0 0 0 0 0 0), a10, a11, a12) 4 17 (-1) := by
  repeat first
    | refine br_f (by decide +kernel) ?_
    | refine br_t (by decide +kernel) ?_
    | refine And.intro (vp_in_iff.mpr (by decide +kernel)) ?_
    | refine nm_r (e' := 0) (by decide +kernel) ?_
    | refine nm_e ?_
    | refine Exists.intro 8 ?_
    | exact H
theorem ww_pass0 {u v : Nat} (hu : u ≤ 50) (hv : v ≤ 50) (h4 : a10 4 = nI v) (H : post (k, 17, 2, 1, a1, a2, a3, a4, (ww_tb ww_z 16 0 0 0 0 0), a6, (ww_tb ww_z 17 0 0 0 0 0), (ww_tb ww_z 0 4 0 0 0 0), (ww_tb ww_z 0 0 0 0 0 0), a10, a11, (ww_tb t (nI u) (-1000000) (-1000000) (-1000000) (nI (u + v)) (-1000000)))) : wpX_pass post (k, 17, 2, 1, a1, a2, a3, a4, (ww_tb ww_z 16 0 0 0 0 0), a6, (ww_tb ww_z 17 0 0 0 0 0), (ww_tb ww_z 0 4 0 0 0 0), (ww_tb ww_z 0 0 0 0 0 0), a10, a11, (ww_tb t (nI u) (-1000000) (-1000000) (-1000000) (-1000000) (-1000000))) 17 0 := by
  have f1 : ¬ nI u ≤ (-1000000 : Int32) := ww_far (by omega)
  have f2 : ¬ nI (u + v) ≤ (-1000000 : Int32) := ww_far (by omega)
  have f4 : nI u + a10 4 = nI (u + v) := by rw [h4, nI_add]
  have f3 : ¬ nI u + a10 4 ≤ (-1000000 : Int32) := by rw [f4]; exact f2
  repeat first
    | refine br_f (by decide +kernel) ?_
    | refine br_t (by decide +kernel) ?_
    | refine And.intro (vp_in_iff.mpr (by decide +kernel)) ?_
    | refine ww_ll0 ?_
    | refine br_f f1 ?_
    | refine br_f f2 ?_
    | refine br_f f3 ?_
    | refine nm_r (ww_u4 (by decide +kernel) f4) ?_
    | refine nm_r (e' := 0) (by decide +kernel) ?_
    | refine nm_r (e' := 4) (by decide +kernel) ?_
    | refine nm_e ?_
    | refine Exists.intro 8 ?_
    | exact H
theorem ww_s75 {g0 g1 g2 g3 g4 g5 : Int32} {u s m : Nat} (hu : u ≤ 50) (hs : s ≤ 100) (h2 : a2 0 = nI (m + 1)) (H : post (k, 17, 2, 1, a1, a2, a3, a4, (ww_tb ww_z 16 0 0 0 0 0), (ww_tb ww_z 16 0 0 0 0 0), (ww_tb ww_z 17 0 0 0 0 0), (ww_tb ww_z 0 4 0 0 0 0), (ww_tb ww_z 0 0 0 0 0 0), a10, (ww_tb tg (nI (u + m * s)) (-1000000) (-1000000) (-1000000) (nI (s + m * s)) (-1000000)), (ww_tb t (nI u) (-1000000) (-1000000) (-1000000) (nI s) (-1000000)))) : ∃ n, wX_sumUp_75 post 0 (nI s) k 17 2 1 n 0 a1 a2 a3 a4 (ww_tb ww_z 16 0 0 0 0 0) (ww_tb ww_z 16 0 0 0 0 0) (ww_tb ww_z 17 0 0 0 0 0) (ww_tb ww_z 0 4 0 0 0 0) (ww_tb ww_z 0 0 0 0 0 0) a10 (ww_tb tg g0 g1 g2 g3 g4 g5) (ww_tb t (nI u) (-1000000) (-1000000) (-1000000) (nI s) (-1000000)) := by
  have f1 : ¬ nI u ≤ (-1000000 : Int32) := ww_far (by omega)
  have f2 : ¬ nI s ≤ (-1000000 : Int32) := ww_far (by omega)
  have e0 : nI u + (a2 0 - 1) * nI s = nI (u + m * s) := by rw [h2, nI_pred, pk_mul, nI_add]
  have e4 : nI s + (a2 0 - 1) * nI s = nI (s + m * s) := by rw [h2, nI_pred, pk_mul, nI_add]
  repeat first
    | refine br_f (by decide +kernel) ?_
    | refine br_t (by decide +kernel) ?_
    | refine And.intro (vp_in_iff.mpr (by decide +kernel)) ?_
    | refine br_f f1 ?_
    | refine br_f f2 ?_
    | refine br_t ww_qq ?_
    | refine nm_r (ww_u0 (by decide +kernel) e0) ?_
    | refine nm_r (ww_u4 (by decide +kernel) e4) ?_
    | refine nm_r (ww_u1 (y := (-1000000)) (by decide +kernel) (by decide +kernel)) ?_
    | refine nm_r (ww_u2 (y := (-1000000)) (by decide +kernel) (by decide +kernel)) ?_
    | refine nm_r (ww_u3 (y := (-1000000)) (by decide +kernel) (by decide +kernel)) ?_
    | refine nm_r (ww_u5 (y := (-1000000)) (by decide +kernel) (by decide +kernel)) ?_
    | refine nm_e ?_
    | refine Exists.intro 8 ?_
    | exact H
theorem ww_s31 {u s : Nat} (hs : s ≤ 100) (H : ∃ n, wX_sumUp_75 post 0 (nI s) k 17 2 1 n 0 a1 a2 a3 a4 (ww_tb ww_z 16 0 0 0 0 0) (ww_tb ww_z 16 0 0 0 0 0) (ww_tb ww_z 17 0 0 0 0 0) (ww_tb ww_z 0 4 0 0 0 0) (ww_tb ww_z 0 0 0 0 0 0) a10 a11 (ww_tb t (nI u) (-1000000) (-1000000) (-1000000) (nI s) (-1000000))) : ∃ n, wX_sumUp_31 post 0 k 17 2 1 a1 a2 a3 a4 (ww_tb ww_z 16 0 0 0 0 0) (ww_tb ww_z 16 0 0 0 0 0) (ww_tb ww_z 17 0 0 0 0 0) (ww_tb ww_z 0 4 0 0 0 0) (ww_tb ww_z 0 0 0 0 0 0) a10 a11 (ww_tb t (nI u) (-1000000) (-1000000) (-1000000) (nI s) (-1000000)) n 0 0 := by
  rcases Nat.eq_zero_or_pos s with e | e
  · subst e
    have c : nI 0 ≤ (0 : Int32) := by decide
    repeat first
      | refine br_f (by decide +kernel) ?_
      | refine br_t (by decide +kernel) ?_
      | refine And.intro (vp_in_iff.mpr (by decide +kernel)) ?_
      | exact H
      | refine br_t c ?_
      | refine nm_e ?_
      | refine Exists.intro 8 ?_
      | exact H
  · have c : ¬ nI s ≤ (0 : Int32) := nI_nle e (by omega)
    repeat first
      | refine br_f (by decide +kernel) ?_
      | refine br_t (by decide +kernel) ?_
      | refine And.intro (vp_in_iff.mpr (by decide +kernel)) ?_
      | exact H
      | refine br_f c ?_
      | refine nm_e ?_
      | refine Exists.intro 8 ?_
      | exact H
theorem ww_sum {g0 g1 g2 g3 g4 g5 : Int32} {u v m : Nat} (hu : u ≤ 50) (hv : v ≤ 50) (h0 : a10 0 = nI u) (h4 : a10 4 = nI v) (h2 : a2 0 = nI (m + 1)) (H : post (k, 17, 2, 1, a1, a2, a3, a4, (ww_tb ww_z 16 0 0 0 0 0), (ww_tb ww_z 16 0 0 0 0 0), (ww_tb ww_z 17 0 0 0 0 0), (ww_tb ww_z 0 4 0 0 0 0), (ww_tb ww_z 0 0 0 0 0 0), a10, (ww_tb tg (nI (u + m * (u + v))) (-1000000) (-1000000) (-1000000) (nI (u + v + m * (u + v))) (-1000000)), (ww_tb a12 (nI u) (-1000000) (-1000000) (-1000000) (nI (u + v)) (-1000000)))) : wpX_sumUp post (k, 17, 2, 1, a1, a2, a3, a4, (ww_tb ww_z 16 0 0 0 0 0), (ww_tb ww_z 16 0 0 0 0 0), (ww_tb ww_z 17 0 0 0 0 0), (ww_tb ww_z 0 4 0 0 0 0), (ww_tb ww_z 0 0 0 0 0 0), a10, (ww_tb tg g0 g1 g2 g3 g4 g5), a12) 0 := by
  unfold wpX_sumUp
  refine ww_begin ?_
  refine And.intro (pk_in 0 6 (by omega)) (And.intro (pk_in 0 6 (by omega)) (nm_r (ww_u0 (by decide +kernel) h0) (And.intro (pk_in 0 6 (by omega)) ?_)))
  refine ww_pass0 hu hv h4 ?_
  exact ww_s31 (by omega) (ww_s75 hu (by omega) h2 H)
theorem ww_come {p w : Nat} (hp : p < 1000) (hw : w < 1000) (H : post (k, l, o, h, a1, a2, a3, a4, a5, a6, a7, a8, a9, a10, (ww_tb tg (nI p) (-1000000) (-1000000) (-1000000) (nI w) (-1000000)), (ww_tb t (nI p) (-1000000) (-1000000) (-1000000) (nI w) (-1000000)))) : wpX_comeTo post (k, l, o, h, a1, a2, a3, a4, a5, a6, a7, a8, a9, a10, (ww_tb tg (nI p) (-1000000) (-1000000) (-1000000) (nI w) (-1000000)), (ww_tb t (-1000000) (-1000000) (-1000000) (-1000000) (-1000000) (-1000000))) 0 0 0 := by
  have f1 : ¬ nI p ≤ (-1000000 : Int32) := ww_far (by omega)
  have f2 : ¬ nI w ≤ (-1000000 : Int32) := ww_far (by omega)
  have e1 : 0 + nI p = nI p := Int32.zero_add _
  have e2 : 0 + nI w = nI w := Int32.zero_add _
  have d1 : ¬ 0 + nI p ≤ (-1000000 : Int32) := by rw [e1]; exact f1
  have d2 : ¬ 0 + nI w ≤ (-1000000 : Int32) := by rw [e2]; exact f2
  repeat first
    | refine br_f (by decide +kernel) ?_
    | refine br_t (by decide +kernel) ?_
    | refine And.intro (vp_in_iff.mpr (by decide +kernel)) ?_
    | refine br_t ww_qq ?_
    | refine br_f f1 ?_
    | refine br_f f2 ?_
    | refine br_f d1 ?_
    | refine br_f d2 ?_
    | refine nm_r (ww_u0 (by decide +kernel) e1) ?_
    | refine nm_r (ww_u4 (by decide +kernel) e2) ?_
    | refine nm_e ?_
    | refine Exists.intro 8 ?_
    | exact H
theorem ww_pass1 {p w : Nat} (hp : p < 1000) (hw : w < 1000) (H : post (k, 17, 2, 1, a1, a2, a3, a4, (ww_tb ww_z 16 0 0 0 0 0), a6, (ww_tb ww_z 17 0 0 0 0 0), (ww_tb ww_z 0 4 0 0 0 0), (ww_tb ww_z 0 0 0 0 0 0), a10, a11, (ww_tb t (nI p) (-1000000) (-1000000) (-1000000) (nI w) (-1000000)))) : wpX_pass post (k, 17, 2, 1, a1, a2, a3, a4, (ww_tb ww_z 16 0 0 0 0 0), a6, (ww_tb ww_z 17 0 0 0 0 0), (ww_tb ww_z 0 4 0 0 0 0), (ww_tb ww_z 0 0 0 0 0 0), a10, a11, (ww_tb t (nI p) (-1000000) (-1000000) (-1000000) (nI w) (-1000000))) 17 (-1) := by
  have f1 : ¬ nI p ≤ (-1000000 : Int32) := ww_far (by omega)
  have f2 : ¬ nI w ≤ (-1000000 : Int32) := ww_far (by omega)
  repeat first
    | refine br_f (by decide +kernel) ?_
    | refine br_t (by decide +kernel) ?_
    | refine And.intro (vp_in_iff.mpr (by decide +kernel)) ?_
    | refine ww_ll10 ?_
    | refine ww_ll14 ?_
    | refine br_f f1 ?_
    | refine br_f f2 ?_
    | refine nm_r (e' := 0) (by decide +kernel) ?_
    | refine nm_r (e' := 4) (by decide +kernel) ?_
    | refine nm_e ?_
    | refine Exists.intro 8 ?_
    | exact H
theorem ww_weighT {g0 g1 g2 g3 g4 g5 : Int32} {u v m : Nat} (hu : u ≤ 50) (hv : v ≤ 50) (hm : m ≤ 2) (h0 : a10 0 = nI u) (h4 : a10 4 = nI v) (h2 : a2 0 = nI (m + 1)) (H : post (k, 17, 2, 1, a1, a2, a3, a4, (ww_tb ww_z 16 0 0 0 0 0), (ww_tb ww_z 16 0 0 0 0 0), (ww_tb ww_z 17 0 0 0 0 0), (ww_tb ww_z 0 4 0 0 0 0), (ww_tb ww_z 0 0 0 0 0 0), a10, (ww_tb tg (nI (u + m * (u + v))) (-1000000) (-1000000) (-1000000) (nI (u + v + m * (u + v))) (-1000000)), (ww_tb a12 (nI (u + m * (u + v))) (-1000000) (-1000000) (-1000000) (nI (u + v + m * (u + v))) (-1000000)))) : wpX_weigh post (k, 17, 2, 1, a1, a2, a3, a4, (ww_tb ww_z 16 0 0 0 0 0), (ww_tb ww_z 16 0 0 0 0 0), (ww_tb ww_z 17 0 0 0 0 0), (ww_tb ww_z 0 4 0 0 0 0), (ww_tb ww_z 0 0 0 0 0 0), a10, (ww_tb tg g0 g1 g2 g3 g4 g5), a12) := by
  have hm' : m * (u + v) ≤ 2 * 100 := Nat.mul_le_mul hm (by omega)
  refine Exists.intro 2 ?_
  refine br_f (by decide +kernel) (And.intro (pk_in 0 6 (by omega)) ?_)
  refine ww_sum hu hv h0 h4 h2 ?_
  refine nm_e ?_
  refine br_t (by decide +kernel) ?_
  refine ww_beginT ?_
  refine ww_ll10 ?_
  refine ww_come (by omega) (by omega) ?_
  exact ww_pass1 (by omega) (by omega) H
theorem ww_weigh {u v m : Nat} (hu : u ≤ 50) (hv : v ≤ 50) (hm : m ≤ 2) (h0 : a10 0 = nI u) (h4 : a10 4 = nI v) (h2 : a2 0 = nI (m + 1)) (H : post (k, 17, 2, 1, a1, a2, a3, a4, (ww_tb ww_z 16 0 0 0 0 0), (ww_tb ww_z 16 0 0 0 0 0), (ww_tb ww_z 17 0 0 0 0 0), (ww_tb ww_z 0 4 0 0 0 0), (ww_tb ww_z 0 0 0 0 0 0), a10, (ww_tb a11 (nI (u + m * (u + v))) (-1000000) (-1000000) (-1000000) (nI (u + v + m * (u + v))) (-1000000)), (ww_tb a12 (nI (u + m * (u + v))) (-1000000) (-1000000) (-1000000) (nI (u + v + m * (u + v))) (-1000000)))) : wpX_weigh post (k, 17, 2, 1, a1, a2, a3, a4, (ww_tb ww_z 16 0 0 0 0 0), (ww_tb ww_z 16 0 0 0 0 0), (ww_tb ww_z 17 0 0 0 0 0), (ww_tb ww_z 0 4 0 0 0 0), (ww_tb ww_z 0 0 0 0 0 0), a10, a11, a12) := by
  have e := ww_weighT (tg := a11) (g0 := a11 0) (g1 := a11 1) (g2 := a11 2) (g3 := a11 3) (g4 := a11 4) (g5 := a11 5) hu hv hm h0 h4 h2 H
  rw [ww_eta a11] at e
  exact e
theorem ww_gr1 {post : Int32 → Prop} {p w : Nat} (hpw : p ≤ w) (hw : w < 1000) (H : post (nI w)) : wX_greatestReach_4 post k l o h a1 a2 a3 a4 a5 a6 a7 a8 a9 a10 a11 (ww_tb t (nI p) (-1000000) (-1000000) (-1000000) (nI w) (-1000000)) 6 (nI p) 1 := by
  have f1 : (-1000000 : Int32) ≤ nI p := ww_near (by omega)
  have f2 : (-1000000 : Int32) ≤ nI w := ww_near (by omega)
  rcases Nat.lt_or_ge p w with e | e
  · have c : ¬ nI w ≤ nI p := nI_ge e (by omega)
    repeat first
      | refine br_f (by decide +kernel) ?_
      | refine br_t (by decide +kernel) ?_
      | refine And.intro (vp_in_iff.mpr (by decide +kernel)) ?_
      | refine br_t f1 ?_
      | refine br_f c ?_
      | refine br_t f2 ?_
      | refine nm_e ?_
      | refine Exists.intro 8 ?_
      | exact H
  · have e' : p = w := by omega
    subst e'
    have c : nI p ≤ nI p := nI_le (Nat.le_refl p) (by omega)
    repeat first
      | refine br_f (by decide +kernel) ?_
      | refine br_t (by decide +kernel) ?_
      | refine And.intro (vp_in_iff.mpr (by decide +kernel)) ?_
      | refine br_t f1 ?_
      | refine br_t c ?_
      | refine nm_e ?_
      | refine Exists.intro 8 ?_
      | exact H
theorem ww_great {post : Int32 → Prop} {p w : Nat} (hpw : p ≤ w) (hw : w < 1000) (H : post (nI w)) : wpX_greatestReach post (k, l, o, h, a1, a2, a3, a4, a5, a6, a7, a8, a9, a10, a11, (ww_tb t (nI p) (-1000000) (-1000000) (-1000000) (nI w) (-1000000))) := by
  refine Exists.intro 7 ?_
  refine br_f (by decide +kernel) (And.intro (pk_in 0 6 (by omega)) ?_)
  have g := ww_gr1 (k := k) (l := l) (o := o) (h := h) (a1 := a1) (a2 := a2) (a3 := a3) (a4 := a4) (a5 := a5) (a6 := a6) (a7 := a7) (a8 := a8) (a9 := a9) (a10 := a10) (a11 := a11) (t := t) hpw hw H
  rcases Nat.eq_zero_or_pos p with e | e
  · subst e
    have c : nI 0 ≤ (0 : Int32) := by decide
    exact br_t c (nm_r (e' := 1) (by decide +kernel) g)
  · have c : ¬ nI p ≤ (0 : Int32) := nI_nle e (by omega)
    exact br_f c (And.intro (pk_in 0 6 (by omega)) (nm_r (e' := nI p) rfl (nm_r (e' := 1) (by decide +kernel) g)))
end
end
section
section
variable {post : Int32 → St2 → Prop} {k l o h : Int32} {a1 a2 a3 a4 a5 a6 a7 a8 a9 a10 a11 a12 t tg : Nat → Int32}
theorem ww_reg (H : post 1 (1, 17, 2, 1, a1, a2, a3, a4, a5, a6, a7, a8, a9, a10, a11, a12)) : wpX_isRegular post (1, 17, 2, 1, a1, a2, a3, a4, a5, a6, a7, a8, a9, a10, a11, a12) := by
  unfold wpX_isRegular
  refine br_f (by decide +kernel) ?_
  refine ww_size ?_
  exact br_t rfl H
theorem ww_useT {post : St2 → Prop} {w0 w1 w2 w3 w4 w5 : Int32} (H : post (k, l, o, h, a1, a2, a3, a4, a5, a6, a7, a8, a9, (ww_tb t (a1 0) (a1 1) (a1 2) (a1 3) (a1 4) (a1 5)), a11, a12)) : wpX_useCosts post (k, l, o, h, a1, a2, a3, a4, a5, a6, a7, a8, a9, (ww_tb t w0 w1 w2 w3 w4 w5), a11, a12) := by
  repeat first
    | refine br_f (by decide +kernel) ?_
    | refine br_t (by decide +kernel) ?_
    | refine And.intro (vp_in_iff.mpr (by decide +kernel)) ?_
    | refine nm_r (ww_u0 (y := a1 0) (by decide +kernel) rfl) ?_
    | refine nm_r (ww_u1 (y := a1 1) (by decide +kernel) rfl) ?_
    | refine nm_r (ww_u2 (y := a1 2) (by decide +kernel) rfl) ?_
    | refine nm_r (ww_u3 (y := a1 3) (by decide +kernel) rfl) ?_
    | refine nm_r (ww_u4 (y := a1 4) (by decide +kernel) rfl) ?_
    | refine nm_r (ww_u5 (y := a1 5) (by decide +kernel) rfl) ?_
    | refine nm_e ?_
    | refine Exists.intro 8 ?_
    | exact H
theorem ww_use {post : St2 → Prop} (H : post (k, l, o, h, a1, a2, a3, a4, a5, a6, a7, a8, a9, (ww_tb a10 (a1 0) (a1 1) (a1 2) (a1 3) (a1 4) (a1 5)), a11, a12)) : wpX_useCosts post (k, l, o, h, a1, a2, a3, a4, a5, a6, a7, a8, a9, a10, a11, a12) := by
  have e := ww_useT (t := a10) (w0 := a10 0) (w1 := a10 1) (w2 := a10 2) (w3 := a10 3) (w4 := a10 4) (w5 := a10 5) H
  rw [ww_eta a10] at e
  exact e
theorem ww_worst4 {c d m : Nat} (hc : c ≤ 50) (hd : d ≤ 50) (hm : m ≤ 2) (h0 : a1 0 = nI c) (h4 : a1 4 = nI d) (h2 : a2 0 = nI (m + 1)) (H : ∀ x10 x11 x12 : Nat → Int32, post (nI (c + d + m * (c + d))) (1, 17, 2, 1, a1, a2, a3, a4, (ww_tb ww_z 16 0 0 0 0 0), (ww_tb ww_z 16 0 0 0 0 0), (ww_tb ww_z 17 0 0 0 0 0), (ww_tb ww_z 0 4 0 0 0 0), (ww_tb ww_z 0 0 0 0 0 0), x10, x11, x12)) : wpX_worst post (1, 17, 2, 1, a1, a2, a3, a4, (ww_tb ww_z 16 0 0 0 0 0), (ww_tb ww_z 16 0 0 0 0 0), (ww_tb ww_z 17 0 0 0 0 0), (ww_tb ww_z 0 4 0 0 0 0), (ww_tb ww_z 0 0 0 0 0 0), a10, a11, a12) 4 := by
  have hm' : m * (c + d) ≤ 2 * 100 := Nat.mul_le_mul hm (by omega)
  have f : ¬ nI (c + d + m * (c + d)) ≤ (-1000000 : Int32) := ww_far (by omega)
  unfold wpX_worst
  refine br_f (by decide +kernel) (br_f (by decide +kernel) (br_f (by decide +kernel) ?_))
  refine ww_reg ?_
  refine br_f (by decide +kernel) ?_
  refine ww_use ?_
  refine ww_weigh (u := c) (v := d) (m := m) hc hd hm h0 h4 h2 ?_
  refine And.intro (pk_in 4 6 (by omega)) ?_
  refine br_f f (And.intro (pk_in 4 6 (by omega)) ?_)
  exact H _ _ _
theorem ww_worst0 {c d m : Nat} (hc : c ≤ 50) (hd : d ≤ 50) (hm : m ≤ 2) (h0 : a1 0 = nI c) (h4 : a1 4 = nI d) (h2 : a2 0 = nI (m + 1)) (H : ∀ x10 x11 x12 : Nat → Int32, post (nI (c + m * (c + d))) (1, 17, 2, 1, a1, a2, a3, a4, (ww_tb ww_z 16 0 0 0 0 0), (ww_tb ww_z 16 0 0 0 0 0), (ww_tb ww_z 17 0 0 0 0 0), (ww_tb ww_z 0 4 0 0 0 0), (ww_tb ww_z 0 0 0 0 0 0), x10, x11, x12)) : wpX_worst post (1, 17, 2, 1, a1, a2, a3, a4, (ww_tb ww_z 16 0 0 0 0 0), (ww_tb ww_z 16 0 0 0 0 0), (ww_tb ww_z 17 0 0 0 0 0), (ww_tb ww_z 0 4 0 0 0 0), (ww_tb ww_z 0 0 0 0 0 0), a10, a11, a12) 0 := by
  have hm' : m * (c + d) ≤ 2 * 100 := Nat.mul_le_mul hm (by omega)
  have f : ¬ nI (c + m * (c + d)) ≤ (-1000000 : Int32) := ww_far (by omega)
  unfold wpX_worst
  refine br_f (by decide +kernel) (br_f (by decide +kernel) (br_f (by decide +kernel) ?_))
  refine ww_reg ?_
  refine br_f (by decide +kernel) ?_
  refine ww_use ?_
  refine ww_weigh (u := c) (v := d) (m := m) hc hd hm h0 h4 h2 ?_
  refine And.intro (pk_in 0 6 (by omega)) ?_
  refine br_f f (And.intro (pk_in 0 6 (by omega)) ?_)
  exact H _ _ _
theorem ww_vi53 {w0 w1 w2 w3 w4 w5 : Int32} {m : Nat} (hm : m ≤ 2) (h2 : a2 0 = nI (m + 1)) (H : ∀ x10 x11 x12 : Nat → Int32, post (nI (m + 1)) (1, 17, 2, 1, a1, a2, a3, a4, (ww_tb ww_z 16 0 0 0 0 0), (ww_tb ww_z 16 0 0 0 0 0), (ww_tb ww_z 17 0 0 0 0 0), (ww_tb ww_z 0 4 0 0 0 0), (ww_tb ww_z 0 0 0 0 0 0), x10, x11, x12)) : ∃ n, wX_visits_53 post 4 1 17 2 1 n 0 a1 a2 a3 a4 (ww_tb ww_z 16 0 0 0 0 0) (ww_tb ww_z 16 0 0 0 0 0) (ww_tb ww_z 17 0 0 0 0 0) (ww_tb ww_z 0 4 0 0 0 0) (ww_tb ww_z 0 0 0 0 0 0) (ww_tb t w0 w1 w2 w3 w4 w5) a11 a12 := by
  have hx : nI (0 + 1 + m * (0 + 1)) = nI (m + 1) := by rw [show 0 + 1 + m * (0 + 1) = m + 1 by omega]
  repeat first
    | refine br_f (by decide +kernel) ?_
    | refine br_t (by decide +kernel) ?_
    | refine And.intro (vp_in_iff.mpr (by decide +kernel)) ?_
    | refine nm_r (ww_u0 (y := 0) (by decide +kernel) (by decide +kernel)) ?_
    | refine nm_r (ww_u1 (y := 0) (by decide +kernel) (by decide +kernel)) ?_
    | refine nm_r (ww_u2 (y := 0) (by decide +kernel) (by decide +kernel)) ?_
    | refine nm_r (ww_u3 (y := 0) (by decide +kernel) (by decide +kernel)) ?_
    | refine nm_r (ww_u4 (y := 1) (by decide +kernel) (by decide +kernel)) ?_
    | refine nm_r (ww_u5 (y := 0) (by decide +kernel) (by decide +kernel)) ?_
    | exact ww_weigh (u := 0) (v := 1) (m := m) (by omega) (by omega) hm rfl rfl h2 (ww_great (by omega) (by omega) (ww_at (P := fun x => post x _) hx (H _ _ _)))
    | refine nm_e ?_
    | refine Exists.intro 8 ?_
    | exact H
theorem ww_visits {m : Nat} (hm : m ≤ 2) (h2 : a2 0 = nI (m + 1)) (H : ∀ x10 x11 x12 : Nat → Int32, post (nI (m + 1)) (1, 17, 2, 1, a1, a2, a3, a4, (ww_tb ww_z 16 0 0 0 0 0), (ww_tb ww_z 16 0 0 0 0 0), (ww_tb ww_z 17 0 0 0 0 0), (ww_tb ww_z 0 4 0 0 0 0), (ww_tb ww_z 0 0 0 0 0 0), x10, x11, x12)) : wpX_visits post (1, 17, 2, 1, a1, a2, a3, a4, (ww_tb ww_z 16 0 0 0 0 0), (ww_tb ww_z 16 0 0 0 0 0), (ww_tb ww_z 17 0 0 0 0 0), (ww_tb ww_z 0 4 0 0 0 0), (ww_tb ww_z 0 0 0 0 0 0), a10, a11, a12) 4 := by
  have e := ww_vi53 (post := post) (t := a10) (w0 := a10 0) (w1 := a10 1) (w2 := a10 2) (w3 := a10 3) (w4 := a10 4) (w5 := a10 5) (a11 := a11) (a12 := a12) hm h2 H
  rw [ww_eta a10] at e
  unfold wpX_visits
  refine ww_reg ?_
  refine br_f (by decide +kernel) ?_
  refine br_f (by decide +kernel) (br_f (by decide +kernel) (br_f (by decide +kernel) ?_))
  refine br_f (by decide +kernel) (br_f (by decide +kernel) ?_)
  exact e
theorem ww_mid {x y : Nat} (h : x < y) (hy : y ≤ 51) : ((nI x - 1 + (nI y - 1)) + 1) >>> ((1 : Int32) &&& 31) = nI ((x + y - 1) / 2) := by
  obtain ⟨z, rfl⟩ : ∃ z, y = z + 1 := ⟨y - 1, by omega⟩
  have e : (nI x - 1 + (nI (z + 1) - 1)) + 1 = nI (x + z) := by
    rw [nI_pred, ← nI_add]
    grind
  rw [e, pk_shrN (by omega) ((1 : Int32) &&& 31) 1 (by decide), show x + (z + 1) - 1 = x + z by omega]
theorem ww_nle {x y : Nat} (h : x < y) (hy : y ≤ 51) : ¬ nI y - 1 ≤ nI x - 1 := by
  intro q
  have q' := Int32.le_iff_toInt_le.mp q
  have e1 : (nI y - nI 1).toInt = (y : Int) - (1 : Nat) := pk_sub_toInt (by omega) (by omega)
  have e2 : (nI x - nI 1).toInt = (x : Int) - (1 : Nat) := pk_sub_toInt (by omega) (by omega)
  have q2 : (nI y - nI 1).toInt ≤ (nI x - nI 1).toInt := q'
  rw [e1, e2] at q2
  omega
theorem ww_cf25 {c m M E : Nat} (hc : c ≤ 50) (hm : m ≤ 2) (hM : M < 512) (h0 : a1 0 = nI c) (h2 : a2 0 = nI (m + 1)) (hE : ∀ v, v ≤ 50 → (v < E ↔ c + v + m * (c + v) ≤ M)) (H : ∀ x10 x11 x12 : Nat → Int32, post (nI E - 1) (1, 17, 2, 1, a1, a2, a3, a4, (ww_tb ww_z 16 0 0 0 0 0), (ww_tb ww_z 16 0 0 0 0 0), (ww_tb ww_z 17 0 0 0 0 0), (ww_tb ww_z 0 4 0 0 0 0), (ww_tb ww_z 0 0 0 0 0 0), x10, x11, x12)) :
    ∀ (j i x y : Nat) (x10 x11 x12 : Nat → Int32), i + j = 7 → x ≤ E → E ≤ y → y ≤ 51 → y - x < 2 ^ j → wX_costFor_25 post 4 (nI M) (j + 1) (nI x - 1) (nI y - 1) (nI i) 1 17 2 1 a1 a2 a3 a4 (ww_tb ww_z 16 0 0 0 0 0) (ww_tb ww_z 16 0 0 0 0 0) (ww_tb ww_z 17 0 0 0 0 0) (ww_tb ww_z 0 4 0 0 0 0) (ww_tb ww_z 0 0 0 0 0 0) x10 x11 x12 := by
  intro j
  induction j with
  | zero =>
    intro i x y x10 x11 x12 hi hx hy hb hd
    have e : x = E := by omega
    have ei : i = 7 := by omega
    subst e
    subst ei
    exact br_t (by decide +kernel) (H _ _ _)
  | succ j ih =>
    intro i x y x10 x11 x12 hi hx hy hb hd
    refine br_f (nI_ge (b := 7) (by omega) (by decide)) ?_
    rcases Nat.lt_or_ge x y with e | e
    · have hv : (x + y - 1) / 2 ≤ 50 := by omega
      obtain ⟨v, ev⟩ : ∃ v, v = (x + y - 1) / 2 := ⟨_, rfl⟩
      have hv' : v ≤ 50 := by omega
      have hm' : m * (c + v) ≤ 2 * 100 := Nat.mul_le_mul hm (by omega)
      have hp : 2 ^ (j + 1) = 2 * 2 ^ j := by rw [Nat.pow_succ, Nat.mul_comm]
      refine br_f (ww_nle e hb) (nm_r (e' := nI v) (by rw [ww_mid e hb, ev]) ?_)
      refine ww_use ?_
      refine And.intro (pk_in 4 6 (by omega)) (nm_r (ww_u4 (y := nI v) (by decide +kernel) rfl) ?_)
      refine ww_weigh (u := c) (v := v) (m := m) hc hv' hm h0 rfl h2 ?_
      refine ww_great (by omega) (by omega) ?_
      rcases Nat.lt_or_ge M (c + v + m * (c + v)) with g | g
      · have hEv : E ≤ v := by
          rcases Nat.lt_or_ge v E with q | q
          · have q2 := (hE v hv').mp q
            omega
          · exact q
        exact br_t (nI_lt g (by omega)) (nm_e (nm_r (nI_1 i) (ih (i + 1) x v _ _ _ (by omega) hx hEv (by omega) (by omega))))
      · have hEv : v < E := (hE v hv').mpr g
        have r := fun X10 X11 X12 => ih (i + 1) (v + 1) y X10 X11 X12 (by omega) (by omega) hy hb (by omega)
        rw [nI_pred] at r
        exact br_f (nI_nlt g (by omega)) (nm_r (nI_1 i) (r _ _ _))
    · have e1 : x = E := by omega
      have e2 : y = E := by omega
      rw [e1, e2]
      exact br_t (Int32.le_refl _) (H _ _ _)
theorem ww_costFor {c m M E : Nat} (hc : c ≤ 50) (hm : m ≤ 2) (hM : M < 512) (h0 : a1 0 = nI c) (h2 : a2 0 = nI (m + 1)) (hE : ∀ v, v ≤ 50 → (v < E ↔ c + v + m * (c + v) ≤ M)) (hb : E ≤ 51) (H : ∀ x10 x11 x12 : Nat → Int32, post (nI E - 1) (1, 17, 2, 1, a1, a2, a3, a4, (ww_tb ww_z 16 0 0 0 0 0), (ww_tb ww_z 16 0 0 0 0 0), (ww_tb ww_z 17 0 0 0 0 0), (ww_tb ww_z 0 4 0 0 0 0), (ww_tb ww_z 0 0 0 0 0 0), x10, x11, x12)) : wpX_costFor post (1, 17, 2, 1, a1, a2, a3, a4, (ww_tb ww_z 16 0 0 0 0 0), (ww_tb ww_z 16 0 0 0 0 0), (ww_tb ww_z 17 0 0 0 0 0), (ww_tb ww_z 0 4 0 0 0 0), (ww_tb ww_z 0 0 0 0 0 0), a10, a11, a12) 4 (nI M) := by
  have e := ww_cf25 (a3 := a3) (a4 := a4) hc hm hM h0 h2 hE H 7 0 0 51 a10 a11 a12 (by omega) (by omega) hb (by omega) (by decide)
  unfold wpX_costFor
  refine br_f (by decide +kernel) (br_f (by decide +kernel) (br_f (by decide +kernel) ?_))
  refine ww_reg ?_
  refine br_f (by decide +kernel) ?_
  exact Exists.intro 8 e
end
end
section
section
variable {post : Int32 → St2 → Prop} {k l o h : Int32} {a1 a2 a3 a4 a5 a6 a7 a8 a9 a10 a11 a12 t tg : Nat → Int32}
theorem ww_init {post : St2 → Prop} (H : post (0, 0, 0, 0, (ww_tb ww_z 0 0 0 0 0 0), (ww_tb ww_z 1 1 1 1 1 1), (ww_tb ww_z 0 0 0 0 0 0), (ww_tb ww_z 0 0 0 0 0 0), (ww_tb ww_z 0 0 0 0 0 0), (ww_tb ww_z 0 0 0 0 0 0), (ww_tb ww_z 0 0 0 0 0 0), (ww_tb ww_z 0 0 0 0 0 0), (ww_tb ww_z 0 0 0 0 0 0), (ww_tb ww_z 0 0 0 0 0 0), (ww_tb ww_z 0 0 0 0 0 0), (ww_tb ww_z 0 0 0 0 0 0))) : wpX_init post 12 102 (0, 0, 0, 0) := by
  unfold wpX_init
  rw [← ww_zz]
  refine ⟨by decide, by decide, by decide, by decide, by decide, by decide, by decide, by decide, by decide, by decide, by decide, by decide, by decide, by decide, by decide, by decide, by decide, by decide, by decide, by decide, by decide, by decide, by decide, by decide, ?_⟩
  repeat first
    | refine br_f (by decide +kernel) ?_
    | refine br_t (by decide +kernel) ?_
    | refine And.intro (vp_in_iff.mpr (by decide +kernel)) ?_
    | refine nm_r (ww_u0 (y := 1) (by decide +kernel) (by decide +kernel)) ?_
    | refine nm_r (ww_u1 (y := 1) (by decide +kernel) (by decide +kernel)) ?_
    | refine nm_r (ww_u2 (y := 1) (by decide +kernel) (by decide +kernel)) ?_
    | refine nm_r (ww_u3 (y := 1) (by decide +kernel) (by decide +kernel)) ?_
    | refine nm_r (ww_u4 (y := 1) (by decide +kernel) (by decide +kernel)) ?_
    | refine nm_r (ww_u5 (y := 1) (by decide +kernel) (by decide +kernel)) ?_
    | refine nm_e ?_
    | refine Exists.intro 8 ?_
    | exact H
theorem ww_cost0 {x0 x1 x2 x3 x4 x5 : Int32} {c : Nat} (hc : c ≤ 50) (H : post 1 (k, l, o, h, (ww_tb t (nI c) x1 x2 x3 x4 x5), a2, a3, a4, a5, a6, a7, a8, a9, a10, a11, a12)) : wpX_cost post (k, l, o, h, (ww_tb t x0 x1 x2 x3 x4 x5), a2, a3, a4, a5, a6, a7, a8, a9, a10, a11, a12) 0 (nI c) := by
  unfold wpX_cost
  refine br_f (by decide +kernel) (br_f (by decide +kernel) (br_f (by decide +kernel) ?_))
  exact br_f (nI_pos (by omega)) (br_t (nI_le (b := 50) hc (by decide)) (And.intro (pk_in 0 6 (by omega)) (nm_r (ww_u0 (by decide +kernel) (ww_b8 c (by omega))) H)))
theorem ww_cost4 {x0 x1 x2 x3 x4 x5 : Int32} {c : Nat} (hc : c ≤ 50) (H : post 1 (k, l, o, h, (ww_tb t x0 x1 x2 x3 (nI c) x5), a2, a3, a4, a5, a6, a7, a8, a9, a10, a11, a12)) : wpX_cost post (k, l, o, h, (ww_tb t x0 x1 x2 x3 x4 x5), a2, a3, a4, a5, a6, a7, a8, a9, a10, a11, a12) 4 (nI c) := by
  unfold wpX_cost
  refine br_f (by decide +kernel) (br_f (by decide +kernel) (br_f (by decide +kernel) ?_))
  exact br_f (nI_pos (by omega)) (br_t (nI_le (b := 50) hc (by decide)) (And.intro (pk_in 4 6 (by omega)) (nm_r (ww_u4 (by decide +kernel) (ww_b8 c (by omega))) H)))
theorem ww_bound {x0 x1 x2 x3 x4 x5 : Int32} {c : Nat} (h1 : 1 ≤ c) (hc : c ≤ 3) (H : post 1 (k, l, o, h, a1, (ww_tb t (nI c) x1 x2 x3 x4 x5), a3, a4, a5, a6, a7, a8, a9, a10, a11, a12)) : wpX_bound post (k, l, o, h, a1, (ww_tb t x0 x1 x2 x3 x4 x5), a3, a4, a5, a6, a7, a8, a9, a10, a11, a12) 0 (nI c) := by
  unfold wpX_bound
  refine br_f (by decide +kernel) (br_f (by decide +kernel) (br_f (by decide +kernel) ?_))
  exact br_f (nI_nlt (b := 1) h1 (by omega)) (br_t (nI_le (b := 3) hc (by decide)) (And.intro (pk_in 0 6 (by omega)) (nm_r (ww_u0 (by decide +kernel) (ww_b8 c (by omega))) H)))
theorem ww_join04 (H : post 1 (0, l, o, h, a1, a2, (ww_tb ww_z 16 0 0 0 0 0), a4, a5, a6, a7, a8, a9, a10, a11, a12)) : wpX_join post (k, l, o, h, a1, a2, (ww_tb ww_z 0 0 0 0 0 0), a4, a5, a6, a7, a8, a9, a10, a11, a12) 0 4 := by
  unfold wpX_join
  repeat first
    | refine br_f (by decide +kernel) ?_
    | refine br_t (by decide +kernel) ?_
    | refine And.intro (vp_in_iff.mpr (by decide +kernel)) ?_
    | refine nm_r (ww_u0 (y := 16) (by decide +kernel) (by decide +kernel)) ?_
    | refine nm_e ?_
    | refine Exists.intro 8 ?_
    | exact H
theorem ww_join40 (H : post 1 (0, l, o, h, a1, a2, (ww_tb ww_z 16 0 0 0 1 0), a4, a5, a6, a7, a8, a9, a10, a11, a12)) : wpX_join post (k, l, o, h, a1, a2, (ww_tb ww_z 16 0 0 0 0 0), a4, a5, a6, a7, a8, a9, a10, a11, a12) 4 0 := by
  unfold wpX_join
  repeat first
    | refine br_f (by decide +kernel) ?_
    | refine br_t (by decide +kernel) ?_
    | refine And.intro (vp_in_iff.mpr (by decide +kernel)) ?_
    | refine nm_r (ww_u4 (y := 1) (by decide +kernel) (by decide +kernel)) ?_
    | refine nm_e ?_
    | refine Exists.intro 8 ?_
    | exact H
theorem ww_loop (H : post 17 (1, 17, 2, 1, a1, a2, (ww_tb ww_z 16 0 0 0 1 0), (ww_tb ww_z 1 0 0 0 17 0), (ww_tb ww_z 16 0 0 0 0 0), (ww_tb ww_z 16 0 0 0 0 0), (ww_tb ww_z 17 0 0 0 0 0), (ww_tb ww_z 0 4 0 0 0 0), (ww_tb ww_z 0 0 0 0 0 0), a10, a11, a12)) : wpX_loop post (0, l, o, h, a1, a2, (ww_tb ww_z 16 0 0 0 1 0), (ww_tb ww_z 0 0 0 0 0 0), (ww_tb ww_z 0 0 0 0 0 0), (ww_tb ww_z 0 0 0 0 0 0), (ww_tb ww_z 0 0 0 0 0 0), (ww_tb ww_z 0 0 0 0 0 0), (ww_tb ww_z 0 0 0 0 0 0), a10, a11, a12) 0 := by
  unfold wpX_loop
  refine br_f (by decide +kernel) (br_f (by decide +kernel) (br_f (by decide +kernel) ?_))
  refine ww_learn ?_
  exact And.intro (pk_in 0 6 (by omega)) H
theorem ww_E {c m M : Nat} : ∃ E, E ≤ 51 ∧ (∀ v, v ≤ 50 → (v < E ↔ c + v + m * (c + v) ≤ M)) ∧ (M < (m + 1) * c → E = 0) ∧ ((m + 1) * c ≤ M → ((M - (m + 1) * c) / (m + 1) ≤ 50 → E = (M - (m + 1) * c) / (m + 1) + 1) ∧ (50 < (M - (m + 1) * c) / (m + 1) → E = 51)) := by
  have hr : ∀ v, c + v + m * (c + v) = (m + 1) * c + v * (m + 1) := fun v => by grind
  rcases Nat.lt_or_ge M ((m + 1) * c) with g | g
  · refine ⟨0, by omega, fun v hv => ?_, fun _ => rfl, fun q => absurd q (by omega)⟩
    rw [hr v]
    have := Nat.zero_le (v * (m + 1))
    omega
  · obtain ⟨R, hR⟩ : ∃ R, R = M - (m + 1) * c := ⟨_, rfl⟩
    have hd : ∀ v, v ≤ R / (m + 1) ↔ v * (m + 1) ≤ R := fun v => Nat.le_div_iff_mul_le (by omega)
    rw [← hR]
    rcases Nat.lt_or_ge 50 (R / (m + 1)) with q | q
    · refine ⟨51, by omega, fun v hv => ?_, fun z => absurd z (by omega), fun _ => ⟨fun z => absurd z (by omega), fun _ => rfl⟩⟩
      rw [hr v]
      have := (hd v).mp (by omega)
      omega
    · refine ⟨R / (m + 1) + 1, by omega, fun v hv => ?_, fun z => absurd z (by omega), fun _ => ⟨fun _ => rfl, fun z => absurd z (by omega)⟩⟩
      rw [hr v]
      have := hd v
      omega
theorem ww_168 {mc ms kc ks : Nat} {x5 x6 x7 x9 x10 x11 x12 x13 z0 : Int32} (h9 : x9 = 17) (h10 : x10 = x7 * (x5 + x6)) (h11 : x11 = (x7 * x5) + ((x7 - 1) * x6)) (h12 : x12 = x7) (h13 : x13 = z0) : wL_lawOf_168 (fun r _ => r = 1) mc ms x5 x6 x7 x9 x10 x11 x12 x13 z0 kc ks :=
  br_t h9 (br_t h10 (br_t h11 (br_t h12 (br_t h13 rfl))))
theorem ww_lawOf (p0 p1 p2 p3 : Int32) : wpL_lawOf (fun r _ => r = 1) 13 118 () p0 p1 p2 p3 := by
  obtain ⟨j0, hj0, e0⟩ := pk_andE p0 (m := 65535) 16 (by decide)
  obtain ⟨j1, hj1, e1⟩ := pk_andE p1 (m := 65535) 16 (by decide)
  obtain ⟨j2, hj2, e2⟩ := pk_andE p2 (m := 65535) 16 (by decide)
  obtain ⟨M, hM, e3⟩ := pk_andE p3 (m := 511) 9 (by decide)
  obtain ⟨c, hc⟩ : ∃ c, c = j0 % 51 := ⟨_, rfl⟩
  obtain ⟨d, hd⟩ : ∃ d, d = j1 % 51 := ⟨_, rfl⟩
  obtain ⟨m, hm⟩ : ∃ m, m = j2 % 3 := ⟨_, rfl⟩
  have hc' : c ≤ 50 := by omega
  have hd' : d ≤ 50 := by omega
  have hm' : m ≤ 2 := by omega
  have q0 : (p0 &&& 65535) - (p0 &&& 65535) / 51 * 51 = nI c := by
    rw [e0, hc]
    exact pk_rem (d := 51) (by omega) (by decide) (by decide)
  have q1 : (p1 &&& 65535) - (p1 &&& 65535) / 51 * 51 = nI d := by
    rw [e1, hd]
    exact pk_rem (d := 51) (by omega) (by decide) (by decide)
  have q2 : 1 + ((p2 &&& 65535) - (p2 &&& 65535) / 3 * 3) = nI (m + 1) := by
    rw [e2, hm, Nat.add_comm, ← nI_add]
    exact congrArg (fun x => (1 : Int32) + x) (pk_rem (d := 3) (by omega) (by decide) (by decide))
  obtain ⟨E, hE1, hE2, hE3, hE4⟩ := ww_E (c := c) (m := m) (M := M)
  have n0 : ¬ nI (m + 1) = 0 := nI_ne0 (by omega) (by omega)
  have hmc : (m + 1) * c ≤ 3 * 50 := Nat.mul_le_mul (by omega) hc'
  have r10 : nI (c + d + m * (c + d)) = nI (m + 1) * (nI c + nI d) := by
    rw [nI_add, pk_mul, show (m + 1) * (c + d) = c + d + m * (c + d) by grind]
  have r11 : nI (c + m * (c + d)) = (nI (m + 1) * nI c) + ((nI (m + 1) - 1) * nI d) := by
    rw [nI_pred, pk_mul, pk_mul, nI_add, show (m + 1) * c + m * d = c + m * (c + d) by grind]
  unfold wpL_lawOf
  refine ⟨by decide, by decide, 12, 102, by decide, by decide, ?_⟩
  refine ww_init ?_
  refine And.intro (by decide) (nm_r q0 (And.intro (by decide) (nm_r q1 (And.intro (by decide) (nm_r q2 (nm_r e3 ?_))))))
  refine ww_cost0 hc' ?_
  refine ww_cost4 hd' ?_
  refine ww_bound (by omega) (by omega) ?_
  refine ww_join04 ?_
  refine ww_join40 ?_
  refine ww_loop ?_
  refine ww_worst4 hc' hd' hm' rfl rfl rfl (fun y1 y2 y3 => ?_)
  refine ww_worst0 hc' hd' hm' rfl rfl rfl (fun y4 y5 y6 => ?_)
  refine ww_visits hm' rfl (fun y7 y8 y9 => ?_)
  refine ww_costFor hc' hm' hM rfl rfl hE2 hE1 (fun y10 y11 y12 => ?_)
  rcases Nat.lt_or_ge M ((m + 1) * c) with g | g
  · have s : nI M - nI (m + 1) * nI c < 0 := by
      rw [pk_mul]
      exact pk_sneg (by omega) g
    refine nm_e (br_f (Int32.not_le.mpr s) ?_)
    exact ww_168 rfl r10 r11 rfl (by rw [hE3 g]; rfl)
  · obtain ⟨g1, g2⟩ := hE4 g
    have s : nI M - nI (m + 1) * nI c = nI (M - (m + 1) * c) := by
      rw [pk_mul]
      exact pk_sub g
    have s2 : nI (M - (m + 1) * c) / nI (m + 1) = nI ((M - (m + 1) * c) / (m + 1)) := pk_div (by omega) (by omega) (by omega)
    have s3 : (M - (m + 1) * c) / (m + 1) ≤ M := Nat.le_trans (Nat.div_le_self _ _) (by omega)
    refine nm_r s (br_t (nI_pos' (by omega)) (And.intro n0 ?_))
    rcases Nat.lt_or_ge 50 ((M - (m + 1) * c) / (m + 1)) with f | f
    · refine br_f ?_ ?_
      · rw [s2]
        exact nI_ge (a := 50) f (by omega)
      · exact ww_168 rfl r10 r11 rfl (by rw [g2 f]; rfl)
    · refine br_t ?_ (And.intro n0 ?_)
      · rw [s2]
        exact nI_le (b := 50) f (by decide)
      · exact ww_168 rfl r10 r11 rfl (by rw [g1 f, nI_pred, s2])
theorem ww_cell {post : Int32 → Prop} {L : Nat} {xs : Nat → Int32} (hL : L ≤ 4) (j : Nat) (hj : j < 4) (H : ∀ x, post x) : wpL_cellAt post L xs () (nI j) :=
  pk_le L j (fun _ => H _) (fun h => And.intro (pk_in j L h) (H _))
end
theorem i_vc (xs : Nat → Int32) (L : Nat) (hL : L ≤ 4) : wpL_law (fun r => r = 1) L xs := by
  refine ww_cell hL 0 (by omega) (fun x1 => ?_)
  refine ww_cell hL 1 (by omega) (fun x2 => ?_)
  refine ww_cell hL 2 (by omega) (fun x3 => ?_)
  refine ww_cell hL 3 (by omega) (fun x4 => ?_)
  exact ⟨13, 118, by decide, by decide, ww_lawOf x1 x2 x3 x4⟩
end
