section
/-! ===== costs: -1 stands for 'no way' ===== -/
def zr_c : Option Nat → Int32
  | none => -1
  | some m => nI m
def zr_w : Option Nat → Int32
  | none => 0
  | some _ => 1
def zr_ad : Option Nat → Option Nat → Option Nat
  | some a, some b => some (a + b)
  | _, _ => none
/-- a cost of at most N -/
def zr_b (N : Nat) (v : Option Nat) : Prop := ∀ m, v = some m → m ≤ N
theorem zr_b_none {N : Nat} : zr_b N none := fun _ h => absurd h.symm (Option.some_ne_none _)
theorem zr_b_some {N m : Nat} (h : m ≤ N) : zr_b N (some m) := fun j e => by
  have : m = j := Option.some.inj e
  omega
theorem zr_b_up {M N : Nat} {v : Option Nat} (h : zr_b M v) (hm : M ≤ N) : zr_b N v := fun j e => Nat.le_trans (h j e) hm
theorem zr_b_ad {M N : Nat} {v w : Option Nat} (h : zr_b M v) (g : zr_b N w) : zr_b (M + N) (zr_ad v w) := by
  cases v with
  | none => exact zr_b_none
  | some a =>
    cases w with
    | none => exact zr_b_none
    | some b => exact zr_b_some (Nat.add_le_add (h a rfl) (g b rfl))
theorem zr_w_mul (v w : Option Nat) : zr_w v * zr_w w = zr_w (zr_ad v w) := by
  cases v <;> cases w <;> rfl
theorem zr_w_one (v : Option Nat) : zr_w v * 1 = zr_w v := by
  cases v <;> rfl
theorem zr_w_zero (v : Option Nat) : 0 + zr_w v = zr_w v := by
  cases v <;> rfl
theorem zr_ad_0 (v : Option Nat) : zr_ad v (some 0) = v := by
  cases v <;> rfl
theorem zr_z : (0 : Int32).toNatClampNeg = 0 := by decide
theorem zr_z10 : (0 : Int32) * 10 + 0 = 0 := by decide
theorem zr_i (N : Nat) (h : 0 < N) (h2 : N < 2 ^ 31) : vp_in 0 N := pk_in 0 N h rfl h2
theorem zr_c_neg {v : Option Nat} (h : zr_b 1000 v) : zr_c v < 0 ↔ v = none := by
  cases v with
  | none => exact ⟨fun _ => rfl, fun _ => by decide⟩
  | some m => exact ⟨fun g => absurd g (nI_pos (Nat.lt_of_le_of_lt (h m rfl) (by decide))), fun g => absurd g (Option.some_ne_none _)⟩
theorem zr_c_nn {v : Option Nat} (h : zr_b 1000 v) : 0 ≤ zr_c v ↔ ¬ v = none := by
  cases v with
  | none => exact ⟨fun g => absurd g (by decide), fun g => absurd rfl g⟩
  | some m => exact ⟨fun _ => Option.some_ne_none _, fun _ => nI_pos' (Nat.lt_of_le_of_lt (h m rfl) (by decide))⟩
section
variable {fh fm fp fc fe fw fl : Int32} {a1 a2 a3 a4 a5 a6 a7 a8 a9 a10 a11 a12 a13 a14 a15 a16 a17 a18 a19 a20 a21 a22 a23 a24 a25 a26 a27 a28 a29 a30 a31 a32 a33 a34 : Nat → Int32}
theorem zr_plus {post : Int32 → Prop} {x y : Int32} (v w : Option Nat) (hx : x = zr_c v) (hy : y = zr_c w) (hv : zr_b 1000 v) (hw : zr_b 1000 w) (H : post (zr_c (zr_ad v w))) : wpX_plus post (fh, fm, fp, fc, fe, fw, fl, a1, a2, a3, a4, a5, a6, a7, a8, a9, a10, a11, a12, a13, a14, a15, a16, a17, a18, a19, a20, a21, a22, a23, a24, a25, a26, a27, a28, a29, a30, a31, a32, a33, a34) x y := by
  cases v with
  | none => exact br_t (by rw [hx]; decide) H
  | some a =>
    have ha : a ≤ 1000 := hv a rfl
    cases w with
    | none => exact br_f (by rw [hx]; exact nI_pos (by omega)) (br_f (by rw [hy]; decide) H)
    | some b =>
      have hb : b ≤ 1000 := hw b rfl
      refine br_f (by rw [hx]; exact nI_pos (by omega)) (br_t (by rw [hy]; exact nI_pos' (by omega)) ?_)
      have e : x + y = zr_c (zr_ad (some a) (some b)) := by
        rw [hx, hy]
        exact nI_add a b
      rw [e]
      exact H
theorem zr_lesser {post : Int32 → Prop} {x y : Int32} (hx : x = -1) (H : post y) : wpX_lesser post (fh, fm, fp, fc, fe, fw, fl, a1, a2, a3, a4, a5, a6, a7, a8, a9, a10, a11, a12, a13, a14, a15, a16, a17, a18, a19, a20, a21, a22, a23, a24, a25, a26, a27, a28, a29, a30, a31, a32, a33, a34) x y :=
  br_f (by rw [hx]; decide) H
theorem zr_greater {post : Int32 → Prop} {x y : Int32} (v : Option Nat) (hx : x = -1) (hy : y = zr_c v) (hv : zr_b 1000 v) (H : post y) : wpX_greater post (fh, fm, fp, fc, fe, fw, fl, a1, a2, a3, a4, a5, a6, a7, a8, a9, a10, a11, a12, a13, a14, a15, a16, a17, a18, a19, a20, a21, a22, a23, a24, a25, a26, a27, a28, a29, a30, a31, a32, a33, a34) x y := by
  refine br_t ?_ H
  rw [hx, hy]
  cases v with
  | none => exact (by decide : (-1 : Int32) ≤ -1)
  | some m => exact Int32.le_trans (by decide : (-1 : Int32) ≤ 0) (nI_pos' (Nat.lt_of_le_of_lt (hv m rfl) (by decide)))
end
end
section
/-! ===== making the one expression: letter, then loop ===== -/
/-- the expression on the stack: letter c, cost in x, follow y, empty e -/
def zr_E (c : Int32) (x : Nat) (y : Option Nat) (e : Int32) (a1 a2 a3 a4 a5 a6 a7 a8 a9 a10 a11 a12 a13 : Nat → Int32) : Prop :=
  a1 0 = 0 ∧ a2 0 = e ∧ a3 0 = e ∧ a4 0 = c ∧ a5 0 = 1 ∧ a6 0 = nI x ∧ a7 0 = nI x ∧ a8 0 = 1 ∧ a9 0 = 0 ∧ a10 0 = 0 ∧ a11 0 = zr_w y ∧ a12 0 = zr_c y ∧ a13 0 = zr_c y
theorem zr_cutv {f : Nat → Int32} {i : Nat} {v : Int32} (h : 0 < i → f 0 = v) : upd (upd f (0 * 10 + i) v) (i * 10 + 0) v 0 = v := by
  by_cases e : i = 0
  · rw [e]
    exact pk_us
  · rw [pk_un (by omega), pk_un (by omega)]
    exact h (by omega)
section
variable {fh fm fp fc fe fw fl : Int32} {a1 a2 a3 a4 a5 a6 a7 a8 a9 a10 a11 a12 a13 a14 a15 a16 a17 a18 a19 a20 a21 a22 a23 a24 a25 a26 a27 a28 a29 a30 a31 a32 a33 a34 : Nat → Int32}
theorem zr_cut {post : St2 → Prop} {x y : Int32} (i j : Nat) (hx : x = nI i) (hy : y = nI j) (h : i * 10 + j < 100)
    (H : post (fh, fm, fp, fc, fe, fw, fl, a1, a2, a3, a4, a5, a6, a7, a8, a9, a10, upd a11 (i * 10 + j) 0, upd a12 (i * 10 + j) (-1), upd a13 (i * 10 + j) (-1), a14, a15, a16, a17, a18, a19, a20, a21, a22, a23, a24, a25, a26, a27, a28, a29, a30, a31, a32, a33, a34)) : wpX_cut post (fh, fm, fp, fc, fe, fw, fl, a1, a2, a3, a4, a5, a6, a7, a8, a9, a10, a11, a12, a13, a14, a15, a16, a17, a18, a19, a20, a21, a22, a23, a24, a25, a26, a27, a28, a29, a30, a31, a32, a33, a34) x y := by
  have e : x * 10 + y = nI (i * 10 + j) := by
    rw [hx, hy, show (10 : Int32) = nI 10 from rfl, pk_mul, nI_add]
  have hi : vp_in (x * 10 + y) 100 := pk_in _ _ h e
  have hc : (x * 10 + y).toNatClampNeg = i * 10 + j := pk_cl _ e
  unfold wpX_cut
  dsimp only
  rw [hc]
  exact ⟨hi, nm_e ⟨hi, nm_e ⟨hi, nm_e H⟩⟩⟩
theorem zr_l105 {post : Int32 → St2 → Prop} (H : ∀ b11 b12 b13 : Nat → Int32, b11 0 = 0 → b12 0 = -1 → b13 0 = -1 → post fh (fh, fm, 1, fc, fe, fw, fl, a1, a2, a3, a4, a5, a6, a7, a8, a9, a10, b11, b12, b13, a14, a15, a16, a17, a18, a19, a20, a21, a22, a23, a24, a25, a26, a27, a28, a29, a30, a31, a32, a33, a34)) :
    ∃ n, wX_leaf_105 post 0 n 0 fh fm fp fc fe fw fl a1 a2 a3 a4 a5 a6 a7 a8 a9 a10 a11 a12 a13 a14 a15 a16 a17 a18 a19 a20 a21 a22 a23 a24 a25 a26 a27 a28 a29 a30 a31 a32 a33 a34 := by
  refine pk_loop (fun n i (s : (Nat → Int32) × (Nat → Int32) × (Nat → Int32)) => wX_leaf_105 post 0 n (nI i) fh fm fp fc fe fw fl a1 a2 a3 a4 a5 a6 a7 a8 a9 a10 s.1 s.2.1 s.2.2 a14 a15 a16 a17 a18 a19 a20 a21 a22 a23 a24 a25 a26 a27 a28 a29 a30 a31 a32 a33 a34) (fun i s => 0 < i → s.1 0 = 0 ∧ s.2.1 0 = -1 ∧ s.2.2 0 = -1) 10 0 (a11, a12, a13) (by omega) (fun h => absurd h (by omega)) ?_ ?_
  · intro n s h
    have h' := h (by omega)
    exact pk_le 10 10 (fun _ => nm_r (e' := 1) (by decide) (H _ _ _ h'.1 h'.2.1 h'.2.2)) (fun z => absurd z (by omega))
  · intro n i s hi h hw
    refine pk_le 10 i (fun z => absurd z (by omega)) (fun _ => ?_)
    refine zr_cut 0 i rfl rfl (by omega) ?_
    refine zr_cut i 0 rfl rfl (by omega) ?_
    refine nm_r (nI_1 i) ?_
    exact hw (upd (upd s.1 (0 * 10 + i) 0) (i * 10 + 0) 0, upd (upd s.2.1 (0 * 10 + i) (-1)) (i * 10 + 0) (-1), upd (upd s.2.2 (0 * 10 + i) (-1)) (i * 10 + 0) (-1))
      (fun _ => ⟨zr_cutv (fun g => (h g).1), zr_cutv (fun g => (h g).2.1), zr_cutv (fun g => (h g).2.2)⟩)
theorem zr_leaf {post : Int32 → St2 → Prop} {c : Int32} {w : Nat} (hw : w ≤ 9)
    (H : ∀ b1 b2 b3 b4 b5 b6 b7 b8 b9 b10 b11 b12 b13 : Nat → Int32, zr_E c w none 0 b1 b2 b3 b4 b5 b6 b7 b8 b9 b10 b11 b12 b13 → post 1 (1, 1, 1, fc, fe, fw, fl, b1, b2, b3, b4, b5, b6, b7, b8, b9, b10, b11, b12, b13, a14, a15, a16, a17, a18, a19, a20, a21, a22, a23, a24, a25, a26, a27, a28, a29, a30, a31, a32, a33, a34)) : wpX_leaf post (0, 0, 0, fc, fe, fw, fl, a1, a2, a3, a4, a5, a6, a7, a8, a9, a10, a11, a12, a13, a14, a15, a16, a17, a18, a19, a20, a21, a22, a23, a24, a25, a26, a27, a28, a29, a30, a31, a32, a33, a34) c (nI w) := by
  have i10 : vp_in 0 10 := zr_i 10 (by omega) (by omega)
  have i9 : vp_in 0 9 := zr_i 9 (by omega) (by omega)
  have i8 : vp_in 0 8 := zr_i 8 (by omega) (by omega)
  unfold wpX_leaf
  dsimp only
  refine br_f (nI_pos (by omega)) (br_t (nI_le (b := 9) hw (by decide)) (br_f (by decide) (br_f (by decide) (br_f (by decide) ?_))))
  unfold wpX_push
  dsimp only
  refine ⟨i9, nm_r (e' := upd a1 0 0) (by rw [zr_z]) ⟨i8, nm_r (e' := upd a2 0 0) (by rw [zr_z]; rfl) ⟨i8, nm_r (e' := upd a3 0 0) (by rw [zr_z]) (nm_r (e' := 1) (by decide) (nm_r (e' := 1) (by decide) ?_))⟩⟩⟩
  refine ⟨i10, nm_r (e' := upd a4 0 c) (by rw [zr_z]) ⟨i10, nm_r (e' := upd a5 0 1) (by rw [zr_z]) ⟨i10, nm_r (e' := upd a6 0 (nI w)) (by rw [zr_z]) ⟨i10, nm_r (e' := upd a7 0 (nI w)) (by rw [zr_z]) ⟨i10, nm_r (e' := upd a8 0 1) (by rw [zr_z]) ⟨i10, nm_r (e' := upd a9 0 0) (by rw [zr_z]) ⟨i10, nm_r (e' := upd a10 0 0) (by rw [zr_z]) ?_⟩⟩⟩⟩⟩⟩⟩
  refine zr_l105 (fun b11 b12 b13 h11 h12 h13 => ?_)
  exact H _ _ _ _ _ _ _ _ _ _ _ _ _ ⟨pk_us, pk_us, pk_us, pk_us, pk_us, pk_us, pk_us, pk_us, pk_us, pk_us, h11, h12, h13⟩
/-- letter, taken -/
theorem zr_letter_ok {post : Int32 → St2 → Prop} {c w : Nat} (hc : c ≤ 2) (hw : w ≤ 9)
    (H : ∀ b1 b2 b3 b4 b5 b6 b7 b8 b9 b10 b11 b12 b13 : Nat → Int32, zr_E (nI c) w none 0 b1 b2 b3 b4 b5 b6 b7 b8 b9 b10 b11 b12 b13 → post 1 (1, 1, 1, fc, fe, fw, fl, b1, b2, b3, b4, b5, b6, b7, b8, b9, b10, b11, b12, b13, a14, a15, a16, a17, a18, a19, a20, a21, a22, a23, a24, a25, a26, a27, a28, a29, a30, a31, a32, a33, a34)) : wpX_letter post (0, 0, 0, fc, fe, fw, fl, a1, a2, a3, a4, a5, a6, a7, a8, a9, a10, a11, a12, a13, a14, a15, a16, a17, a18, a19, a20, a21, a22, a23, a24, a25, a26, a27, a28, a29, a30, a31, a32, a33, a34) (nI c) (nI w) := by
  unfold wpX_letter
  dsimp only
  refine br_f (nI_pos (by omega)) (br_t (nI_le (b := 2) hc (by decide)) ?_)
  exact zr_leaf hw H
/-- letter, refused -/
theorem zr_letter_no {post : Int32 → St2 → Prop} {c w : Int32} (h : c < 0 ∨ 2 < c ∨ w < 0 ∨ 9 < w) (H : post (-1) (fh, fm, fp, fc, fe, fw, fl, a1, a2, a3, a4, a5, a6, a7, a8, a9, a10, a11, a12, a13, a14, a15, a16, a17, a18, a19, a20, a21, a22, a23, a24, a25, a26, a27, a28, a29, a30, a31, a32, a33, a34)) : wpX_letter post (fh, fm, fp, fc, fe, fw, fl, a1, a2, a3, a4, a5, a6, a7, a8, a9, a10, a11, a12, a13, a14, a15, a16, a17, a18, a19, a20, a21, a22, a23, a24, a25, a26, a27, a28, a29, a30, a31, a32, a33, a34) c w := by
  unfold wpX_letter
  dsimp only
  refine br_c (fun _ => H) (fun h1 => br_c (fun h2 => ?_) (fun _ => H))
  have h3 : w < 0 ∨ 9 < w := by
    rcases h with g | g | g
    · exact absurd g h1
    · exact absurd h2 (Int32.not_le.mpr g)
    · exact g
  unfold wpX_leaf
  dsimp only
  refine br_c (fun _ => H) (fun h4 => br_f ?_ H)
  rcases h3 with g | g
  · exact absurd g h4
  · exact Int32.not_le.mpr g
theorem zr_link {post : St2 → Prop} {c e x0 x1 x2 : Int32} {p w : Nat} (hp : p ≤ 9) (hw : w ≤ 9) (k : zr_E c w none e a1 a2 a3 a4 a5 a6 a7 a8 a9 a10 a11 a12 a13) (hx0 : x0 = 0) (hx1 : x1 = 0) (hx2 : x2 = nI p)
    (H : ∀ b11 b12 b13 : Nat → Int32, b11 0 = 1 → b12 0 = nI (w + p) → b13 0 = nI (w + p) → post (fh, fm, 1, fc, fe, fw, fl, a1, a2, a3, a4, a5, a6, a7, a8, a9, a10, b11, b12, b13, a14, a15, a16, a17, a18, a19, a20, a21, a22, a23, a24, a25, a26, a27, a28, a29, a30, a31, a32, a33, a34)) : wpX_link post (fh, fm, 1, fc, fe, fw, fl, a1, a2, a3, a4, a5, a6, a7, a8, a9, a10, a11, a12, a13, a14, a15, a16, a17, a18, a19, a20, a21, a22, a23, a24, a25, a26, a27, a28, a29, a30, a31, a32, a33, a34) x0 x1 x2 := by
  obtain ⟨h1, h2, h3, h4, h5, h6, h7, h8, h9, h10, h11, h12, h13⟩ := k
  subst hx0 hx1 hx2
  have i10 : vp_in 0 10 := zr_i 10 (by omega) (by omega)
  have i100 : vp_in 0 100 := zr_i 100 (by omega) (by omega)
  have B : ∀ m : Nat, m ≤ 9 → zr_b 1000 (some m) := fun m hm => zr_b_some (by omega)
  have e1 : zr_ad (zr_ad (some 0) (some p)) (some w) = some (w + p) := congrArg some (by omega)
  have B2 : zr_b 1000 (zr_ad (some 0) (some p)) := zr_b_some (by omega)
  unfold wpX_link
  dsimp only
  rw [zr_z]
  refine ⟨i10, zr_plus (some 0) (some p) (by rw [h9]; rfl) rfl (B 0 (by omega)) (B p hp) ⟨i10, zr_plus (some 0) (some p) (by rw [h10]; rfl) rfl (B 0 (by omega)) (B p hp) ⟨0 + 1 + 1, ?_⟩⟩⟩
  refine br_f (by decide) (nm_r (e' := 0) zr_z10 ⟨i100, i10, i10, i100, nm_r (e' := upd a11 0 1) (by rw [zr_z, h11, h8, h5]; rfl) ⟨i10, ?_⟩⟩)
  refine zr_plus (zr_ad (some 0) (some p)) (some w) rfl (by rw [zr_z, h6]; rfl) B2 (B w hw) ⟨i10, ?_⟩
  refine zr_plus (zr_ad (some 0) (some p)) (some w) rfl (by rw [zr_z, h7]; rfl) B2 (B w hw) ⟨i100, ?_⟩
  rw [e1]
  refine zr_lesser (by rw [zr_z, h12]; rfl) ⟨i100, nm_r (e' := upd a12 0 (nI (w + p))) (by rw [zr_z]; rfl) ⟨i100, ?_⟩⟩
  refine zr_greater (some (w + p)) (by rw [zr_z, h13]; rfl) rfl (zr_b_some (by omega)) ⟨i100, nm_r (e' := upd a13 0 (nI (w + p))) (by rw [zr_z]; rfl) ?_⟩
  refine nm_r (e' := 1) (by decide) (br_t (by decide) ?_)
  exact H _ _ _ pk_us pk_us pk_us
theorem zr_loop_no {post : Int32 → St2 → Prop} {p : Int32} (h : p < 0 ∨ 9 < p) (H : post (-1) (fh, fm, fp, fc, fe, fw, fl, a1, a2, a3, a4, a5, a6, a7, a8, a9, a10, a11, a12, a13, a14, a15, a16, a17, a18, a19, a20, a21, a22, a23, a24, a25, a26, a27, a28, a29, a30, a31, a32, a33, a34)) : wpX_loop post (fh, fm, fp, fc, fe, fw, fl, a1, a2, a3, a4, a5, a6, a7, a8, a9, a10, a11, a12, a13, a14, a15, a16, a17, a18, a19, a20, a21, a22, a23, a24, a25, a26, a27, a28, a29, a30, a31, a32, a33, a34) p := by
  unfold wpX_loop
  dsimp only
  refine br_c (fun _ => H) (fun h1 => br_f ?_ H)
  rcases h with g | g
  · exact absurd g h1
  · exact Int32.not_le.mpr g
theorem zr_loop_low {post : Int32 → St2 → Prop} {p : Nat} (hp : p ≤ 9) (H : post (-3) (0, 0, fp, fc, fe, fw, fl, a1, a2, a3, a4, a5, a6, a7, a8, a9, a10, a11, a12, a13, a14, a15, a16, a17, a18, a19, a20, a21, a22, a23, a24, a25, a26, a27, a28, a29, a30, a31, a32, a33, a34)) : wpX_loop post (0, 0, fp, fc, fe, fw, fl, a1, a2, a3, a4, a5, a6, a7, a8, a9, a10, a11, a12, a13, a14, a15, a16, a17, a18, a19, a20, a21, a22, a23, a24, a25, a26, a27, a28, a29, a30, a31, a32, a33, a34) (nI p) := by
  unfold wpX_loop
  dsimp only
  refine br_f (nI_pos (by omega)) (br_t (nI_le (b := 9) hp (by decide)) ?_)
  unfold wpX_refused
  dsimp only
  exact br_f (by decide) (br_f (by decide) (br_f (by decide) H))
theorem zr_l75 {post : Int32 → St2 → Prop} {c x3 : Int32} {p w : Nat} (hp : p ≤ 9) (hw : w ≤ 9) (hx3 : x3 = 0) (h1 : a1 0 = 0) (h4 : a4 0 = c) (h5 : a5 0 = 1) (h6 : a6 0 = nI w) (h7 : a7 0 = nI w) (h8 : a8 0 = 1) (h9 : a9 0 = 0) (h10 : a10 0 = 0) (h11 : a11 0 = 1) (h12 : a12 0 = nI (w + p)) (h13 : a13 0 = nI (w + p))
    (H : ∀ b1 b2 b3 b4 b5 b6 b7 b8 b9 b10 b11 b12 b13 : Nat → Int32, zr_E c (w + p) (some (w + p)) 1 b1 b2 b3 b4 b5 b6 b7 b8 b9 b10 b11 b12 b13 → post 1 (1, 2, 1, fc, fe, fw, fl, b1, b2, b3, b4, b5, b6, b7, b8, b9, b10, b11, b12, b13, a14, a15, a16, a17, a18, a19, a20, a21, a22, a23, a24, a25, a26, a27, a28, a29, a30, a31, a32, a33, a34)) : ∃ n, wX_loop_75 post (nI p) x3 1 1 1 fc fe fw fl n 0 a1 a2 a3 a4 a5 a6 a7 a8 a9 a10 a11 a12 a13 a14 a15 a16 a17 a18 a19 a20 a21 a22 a23 a24 a25 a26 a27 a28 a29 a30 a31 a32 a33 a34 := by
  subst hx3
  have i10 : vp_in 0 10 := zr_i 10 (by omega) (by omega)
  have i8 : vp_in 0 8 := zr_i 8 (by omega) (by omega)
  have B : ∀ m : Nat, m ≤ 9 → zr_b 1000 (some m) := fun m hm => zr_b_some (by omega)
  refine ⟨0 + 1 + 1, br_f (by decide) ⟨i10, zr_plus (some w) (some p) (by rw [zr_z, h6]; rfl) rfl (B w hw) (B p hp) ⟨i10, nm_r (e' := upd a6 0 (nI (w + p))) (by rw [zr_z]; rfl) ⟨i10, ?_⟩⟩⟩⟩
  refine zr_plus (some w) (some p) (by rw [zr_z, h7]; rfl) rfl (B w hw) (B p hp) ⟨i10, nm_r (e' := upd a7 0 (nI (w + p))) (by rw [zr_z]; rfl) (nm_r (e' := 1) (by decide) ?_)⟩
  refine br_t (by decide) ⟨i8, nm_r (e' := upd a3 0 1) (by rw [zr_z]) ⟨i8, nm_r (e' := upd a2 0 1) (by rw [zr_z]) (nm_r (e' := 2) (by decide) ?_)⟩⟩
  exact H _ _ _ _ _ _ _ _ _ _ _ _ _ ⟨h1, pk_us, pk_us, h4, h5, pk_us, pk_us, h8, h9, h10, h11, h12, h13⟩
theorem zr_loop_ok {post : Int32 → St2 → Prop} {c e : Int32} {p w : Nat} (hp : p ≤ 9) (hw : w ≤ 9) (k : zr_E c w none e a1 a2 a3 a4 a5 a6 a7 a8 a9 a10 a11 a12 a13)
    (H : ∀ b1 b2 b3 b4 b5 b6 b7 b8 b9 b10 b11 b12 b13 : Nat → Int32, zr_E c (w + p) (some (w + p)) 1 b1 b2 b3 b4 b5 b6 b7 b8 b9 b10 b11 b12 b13 → post 1 (1, 2, 1, fc, fe, fw, fl, b1, b2, b3, b4, b5, b6, b7, b8, b9, b10, b11, b12, b13, a14, a15, a16, a17, a18, a19, a20, a21, a22, a23, a24, a25, a26, a27, a28, a29, a30, a31, a32, a33, a34)) : wpX_loop post (1, 1, 1, fc, fe, fw, fl, a1, a2, a3, a4, a5, a6, a7, a8, a9, a10, a11, a12, a13, a14, a15, a16, a17, a18, a19, a20, a21, a22, a23, a24, a25, a26, a27, a28, a29, a30, a31, a32, a33, a34) (nI p) := by
  have k' := k
  obtain ⟨h1, h2, h3, h4, h5, h6, h7, h8, h9, h10, h11, h12, h13⟩ := k
  have i9 : vp_in 0 9 := zr_i 9 (by omega) (by omega)
  unfold wpX_loop
  dsimp only
  refine br_f (nI_pos (by omega)) (br_t (nI_le (b := 9) hp (by decide)) ?_)
  unfold wpX_refused
  dsimp only
  refine br_f (by decide) (br_t (by decide) (br_t (by decide) (nm_r (e' := 0) (by decide) ⟨i9, nm_r (e' := 0) (by rw [zr_z, h1]) ⟨0 + 1 + 1, ?_⟩⟩)))
  refine br_f (by decide) ⟨i9, ?_⟩
  refine zr_link hp hw k' rfl (by rw [zr_z, h1]) rfl (fun b11 b12 b13 g11 g12 g13 => ?_)
  refine nm_r (e' := 1) (by decide) (br_t (by decide) ⟨i9, nm_r (e' := 0) (by rw [zr_z, h1]) ?_⟩)
  exact zr_l75 hp hw rfl h1 h4 h5 h6 h7 h8 h9 h10 g11 g12 g13 H
end
end
section
/-! ===== define: the expression on the stack goes into use; type ===== -/
/-- the expression in use, if there is one (k = 1): letter c, cost in x, follow y -/
def zr_U (k : Nat) (c : Int32) (x : Nat) (y : Option Nat) (a14 a15 a16 a17 a18 a19 a20 a21 a22 a23 : Nat → Int32) : Prop :=
  k = 1 → (a14 0 = c ∧ a15 0 = 1 ∧ a16 0 = nI x ∧ a17 0 = nI x ∧ a18 0 = 1 ∧ a19 0 = 0 ∧ a20 0 = 0 ∧ a21 0 = zr_w y ∧ a22 0 = zr_c y ∧ a23 0 = zr_c y)
section
variable {fh fm fp fc fe fw fl : Int32} {a1 a2 a3 a4 a5 a6 a7 a8 a9 a10 a11 a12 a13 a14 a15 a16 a17 a18 a19 a20 a21 a22 a23 a24 a25 a26 a27 a28 a29 a30 a31 a32 a33 a34 : Nat → Int32}
theorem zr_take {post : St2 → Prop} {c e x0 : Int32} {x : Nat} {y : Option Nat} (k : zr_E c x y e a1 a2 a3 a4 a5 a6 a7 a8 a9 a10 a11 a12 a13) (hx0 : x0 = 0)
    (H : ∀ b14 b15 b16 b17 b18 b19 b20 b21 b22 b23 : Nat → Int32, zr_U 1 c x y b14 b15 b16 b17 b18 b19 b20 b21 b22 b23 → post (fh, fm, fp, 1, fe, fw, fl, a1, a2, a3, a4, a5, a6, a7, a8, a9, a10, a11, a12, a13, b14, b15, b16, b17, b18, b19, b20, b21, b22, b23, a24, a25, a26, a27, a28, a29, a30, a31, a32, a33, a34)) : wpX_take post (fh, fm, fp, 1, fe, fw, fl, a1, a2, a3, a4, a5, a6, a7, a8, a9, a10, a11, a12, a13, a14, a15, a16, a17, a18, a19, a20, a21, a22, a23, a24, a25, a26, a27, a28, a29, a30, a31, a32, a33, a34) x0 := by
  obtain ⟨h1, h2, h3, h4, h5, h6, h7, h8, h9, h10, h11, h12, h13⟩ := k
  subst hx0
  have i10 : vp_in 0 10 := zr_i 10 (by omega) (by omega)
  have i100 : vp_in (0 * 10 + 0) 100 := by
    rw [zr_z10]
    exact zr_i 100 (by omega) (by omega)
  unfold wpX_take
  dsimp only
  rw [zr_z]
  refine ⟨i10, i10, nm_r (e' := upd a14 0 c) (by rw [h4]) ⟨i10, i10, nm_r (e' := upd a15 0 1) (by rw [h5]) ⟨i10, i10, nm_r (e' := upd a16 0 (nI x)) (by rw [h6]) ⟨i10, i10, nm_r (e' := upd a17 0 (nI x)) (by rw [h7]) ⟨i10, i10, nm_r (e' := upd a18 0 1) (by rw [h8]) ⟨i10, i10, nm_r (e' := upd a19 0 0) (by rw [h9]) ⟨i10, i10, nm_r (e' := upd a20 0 0) (by rw [h10]) ⟨0 + 1 + 1, ?_⟩⟩⟩⟩⟩⟩⟩⟩
  refine br_f (by decide) ⟨i100, i100, nm_r (e' := upd a21 0 (zr_w y)) (by rw [zr_z10, zr_z, h11]) ⟨i100, i100, nm_r (e' := upd a22 0 (zr_c y)) (by rw [zr_z10, zr_z, h12]) ⟨i100, i100, nm_r (e' := upd a23 0 (zr_c y)) (by rw [zr_z10, zr_z, h13]) (nm_r (e' := 1) (by decide) ?_)⟩⟩⟩
  refine br_t (by decide) ?_
  exact H _ _ _ _ _ _ _ _ _ _ (fun _ => ⟨pk_us, pk_us, pk_us, pk_us, pk_us, pk_us, pk_us, pk_us, pk_us, pk_us⟩)
theorem zr_define_ok {post : Int32 → St2 → Prop} {c : Int32} {x e : Nat} {y : Option Nat} (he : e = 0 ∨ e = 1) (k : zr_E c x y (nI e) a1 a2 a3 a4 a5 a6 a7 a8 a9 a10 a11 a12 a13)
    (H : ∀ b14 b15 b16 b17 b18 b19 b20 b21 b22 b23 : Nat → Int32, zr_U 1 c x y b14 b15 b16 b17 b18 b19 b20 b21 b22 b23 → post 0 (0, 0, 0, 1, nI e, nI e, fl, a1, a2, a3, a4, a5, a6, a7, a8, a9, a10, a11, a12, a13, b14, b15, b16, b17, b18, b19, b20, b21, b22, b23, a24, a25, a26, a27, a28, a29, a30, a31, a32, a33, a34)) : wpX_define post (1, fm, 1, fc, fe, fw, fl, a1, a2, a3, a4, a5, a6, a7, a8, a9, a10, a11, a12, a13, a14, a15, a16, a17, a18, a19, a20, a21, a22, a23, a24, a25, a26, a27, a28, a29, a30, a31, a32, a33, a34) := by
  have k' := k
  obtain ⟨h1, h2, h3, h4, h5, h6, h7, h8, h9, h10, h11, h12, h13⟩ := k
  have n1 : narrow .boolean (.int (nI e)) = .int (nI e) := by
    rcases he with g | g <;> rw [g] <;> rfl
  have n2 : fits .boolean (.int (nI e)) = true := by
    rcases he with g | g <;> rw [g] <;> rfl
  unfold wpX_define
  dsimp only
  refine br_t (by decide) (nm_r (e' := nI e) h2 ⟨n1, n2, nm_r (e' := nI e) h3 ⟨0 + 1 + 1, ?_⟩⟩)
  refine br_f (by decide) ?_
  refine zr_take k' rfl (fun b14 b15 b16 b17 b18 b19 b20 b21 b22 b23 hU => ?_)
  refine nm_r (e' := 1) (by decide) (br_t (by decide) ?_)
  exact H _ _ _ _ _ _ _ _ _ _ hU
theorem zr_define_low {post : Int32 → St2 → Prop} (H : post (-3) (0, fm, fp, fc, fe, fw, fl, a1, a2, a3, a4, a5, a6, a7, a8, a9, a10, a11, a12, a13, a14, a15, a16, a17, a18, a19, a20, a21, a22, a23, a24, a25, a26, a27, a28, a29, a30, a31, a32, a33, a34)) : wpX_define post (0, fm, fp, fc, fe, fw, fl, a1, a2, a3, a4, a5, a6, a7, a8, a9, a10, a11, a12, a13, a14, a15, a16, a17, a18, a19, a20, a21, a22, a23, a24, a25, a26, a27, a28, a29, a30, a31, a32, a33, a34) := by
  unfold wpX_define
  dsimp only
  exact br_f (by decide) H
/-- type: taken or refused -/
def zr_ty (t : Int32) (n : Nat) (a : Nat → Int32) (r : Int32) (n' : Nat) (b : Nat → Int32) : Prop :=
  (¬ t < 0 ∧ ¬ 2 < t ∧ r = nI (n + 1) ∧ n' = n + 1 ∧ b = upd a n t) ∨ ((t < 0 ∨ 2 < t) ∧ r = -1 ∧ n' = n ∧ b = a)
theorem zr_type {post : Int32 → St2 → Prop} {t : Int32} {n : Nat} (hn : n < 8)
    (H : ∀ (r : Int32) (n' : Nat) (b24 : Nat → Int32), zr_ty t n a24 r n' b24 → post r (fh, fm, fp, fc, fe, fw, nI n', a1, a2, a3, a4, a5, a6, a7, a8, a9, a10, a11, a12, a13, a14, a15, a16, a17, a18, a19, a20, a21, a22, a23, b24, a25, a26, a27, a28, a29, a30, a31, a32, a33, a34)) : wpX_type post (fh, fm, fp, fc, fe, fw, nI n, a1, a2, a3, a4, a5, a6, a7, a8, a9, a10, a11, a12, a13, a14, a15, a16, a17, a18, a19, a20, a21, a22, a23, a24, a25, a26, a27, a28, a29, a30, a31, a32, a33, a34) t := by
  have hc : (nI n).toNatClampNeg = n := pk_cl n
  unfold wpX_type
  dsimp only
  refine br_c (fun g => H (-1) n a24 (Or.inr ⟨Or.inl g, rfl, rfl, rfl⟩)) (fun g => br_c (fun g2 => ?_) (fun g2 => H (-1) n a24 (Or.inr ⟨Or.inr (Int32.not_le.mp g2), rfl, rfl, rfl⟩)))
  refine br_f (fun z => absurd ((nI_eq (a := n) (b := 8) (by omega) (by omega)).mp z) (by omega)) ⟨vp_in_nI hn (by omega), nm_r (e' := upd a24 n t) (by rw [hc]) (nm_r (nI_1 n) ?_)⟩
  exact H (nI (n + 1)) (n + 1) (upd a24 n t) (Or.inl ⟨g, Int32.not_lt.mpr g2, rfl, rfl, rfl⟩)
end
end
section
/-! ===== the sweep ===== -/
/-- the first letter of a window -/
def zr_v1 (k : Nat) (c : Int32) (x : Nat) (t : Int32) : Option Nat := if k = 1 ∧ c = t then some x else none
/-- one more letter -/
def zr_v2 (k : Nat) (c : Int32) (y v : Option Nat) (t : Int32) : Option Nat := if k = 1 ∧ c = t then zr_ad v y else none
/-- the cost of the window of length m from i -/
def zr_vs (k : Nat) (c : Int32) (x : Nat) (y : Option Nat) (e : Nat) (t : Nat → Int32) (i : Nat) : Nat → Option Nat
  | 0 => if e = 1 then some 0 else none
  | 1 => zr_v1 k c x (t i)
  | m + 2 => zr_v2 k c y (zr_vs k c x y e t i (m + 1)) (t (i + m + 1))
/-- the place's weight now -/
def zr_N (k : Nat) (v : Option Nat) (a25 a26 a27 : Nat → Int32) : Prop := (k = 0 → v = none) ∧ (k = 1 → a25 0 = zr_w v ∧ a26 0 = zr_c v ∧ a27 0 = zr_c v)
/-- what is known of the expression in use -/
def zr_ok (k : Nat) (c : Int32) (x : Nat) (y : Option Nat) (e : Nat) : Prop := (k = 0 ∨ k = 1) ∧ (e = 0 ∨ e = 1) ∧ x ≤ 18 ∧ zr_b 18 y ∧ (k = 1 → ¬ c = 3)
theorem zr_vs_b {k : Nat} {c : Int32} {x : Nat} {y : Option Nat} {e : Nat} {t : Nat → Int32} {i : Nat} (h : zr_ok k c x y e) : ∀ m, zr_b (18 * m) (zr_vs k c x y e t i m)
  | 0 => by
    unfold zr_vs
    by_cases g : e = 1
    · rw [if_pos g]
      exact zr_b_some (by omega)
    · rw [if_neg g]
      exact zr_b_none
  | 1 => by
    show zr_b (18 * 1) (zr_v1 k c x (t i))
    unfold zr_v1
    by_cases g : k = 1 ∧ c = t i
    · rw [if_pos g]
      exact zr_b_some h.2.2.1
    · rw [if_neg g]
      exact zr_b_none
  | m + 2 => by
    show zr_b (18 * (m + 2)) (zr_v2 k c y (zr_vs k c x y e t i (m + 1)) (t (i + m + 1)))
    unfold zr_v2
    by_cases g : k = 1 ∧ c = t (i + m + 1)
    · rw [if_pos g]
      exact zr_b_up (zr_b_ad (zr_vs_b h (m + 1)) h.2.2.2.1) (by omega)
    · rw [if_neg g]
      exact zr_b_none
section
variable {fh fm fp fc fe fw fl : Int32} {a1 a2 a3 a4 a5 a6 a7 a8 a9 a10 a11 a12 a13 a14 a15 a16 a17 a18 a19 a20 a21 a22 a23 a24 a25 a26 a27 a28 a29 a30 a31 a32 a33 a34 : Nat → Int32}
theorem zr_fits {post : Int32 → Prop} {x0 c t : Int32} (hx0 : x0 = 0) (h14 : a14 0 = c) (h3 : ¬ c = 3) (H1 : c = t → post 1) (H0 : ¬ c = t → post 0) : wpX_fits post (fh, fm, fp, fc, fe, fw, fl, a1, a2, a3, a4, a5, a6, a7, a8, a9, a10, a11, a12, a13, a14, a15, a16, a17, a18, a19, a20, a21, a22, a23, a24, a25, a26, a27, a28, a29, a30, a31, a32, a33, a34) x0 t := by
  subst hx0
  have i10 : vp_in 0 10 := zr_i 10 (by omega) (by omega)
  unfold wpX_fits
  dsimp only
  rw [zr_z, h14]
  exact ⟨i10, br_f h3 ⟨i10, br_c H1 H0⟩⟩
theorem zr_enter {post : St2 → Prop} {k x : Nat} {c t : Int32} {y : Option Nat} {e : Nat} (ok : zr_ok k c x y e) (hU : zr_U k c x y a14 a15 a16 a17 a18 a19 a20 a21 a22 a23)
    (H : ∀ b25 b26 b27 : Nat → Int32, zr_N k (zr_v1 k c x t) b25 b26 b27 → post (fh, fm, fp, nI k, fe, fw, fl, a1, a2, a3, a4, a5, a6, a7, a8, a9, a10, a11, a12, a13, a14, a15, a16, a17, a18, a19, a20, a21, a22, a23, a24, b25, b26, b27, a28, a29, a30, a31, a32, a33, a34)) : wpX_enter post (fh, fm, fp, nI k, fe, fw, fl, a1, a2, a3, a4, a5, a6, a7, a8, a9, a10, a11, a12, a13, a14, a15, a16, a17, a18, a19, a20, a21, a22, a23, a24, a25, a26, a27, a28, a29, a30, a31, a32, a33, a34) t := by
  have i10 : vp_in 0 10 := zr_i 10 (by omega) (by omega)
  obtain ⟨hk, _, _, _, hc⟩ := ok
  unfold wpX_enter
  dsimp only
  rcases hk with g | g
  · subst g
    refine ⟨0 + 1, br_t (by decide) (H a25 a26 a27 ⟨fun _ => if_neg (fun z => absurd z.1 (by decide)), fun z => absurd z (by decide)⟩)⟩
  · subst g
    obtain ⟨h14, h15, h16, h17, h18, h19, h20, h21, h22, h23⟩ := hU rfl
    refine ⟨0 + 1 + 1, br_f (by decide) (zr_fits rfl h14 (hc rfl) (fun q => ?_) (fun q => ?_))⟩
    · refine br_f (by decide) ⟨i10, i10, nm_r (e' := upd a25 0 1) (by rw [zr_z, h15]) ⟨i10, i10, nm_r (e' := upd a26 0 (nI x)) (by rw [zr_z, h16]) ⟨i10, i10, nm_r (e' := upd a27 0 (nI x)) (by rw [zr_z, h17]) (nm_r (e' := 1) (by decide) (br_t (by decide) ?_))⟩⟩⟩
      refine H _ _ _ ⟨fun z => absurd z (by decide), fun _ => ?_⟩
      rw [show zr_v1 1 c x t = some x from if_pos ⟨rfl, q⟩]
      exact ⟨pk_us, pk_us, pk_us⟩
    · refine br_t (by decide) ⟨i10, nm_r (e' := upd a25 0 0) (by rw [zr_z]) ⟨i10, nm_r (e' := upd a26 0 (-1)) (by rw [zr_z]) ⟨i10, nm_r (e' := upd a27 0 (-1)) (by rw [zr_z]) (nm_r (e' := 1) (by decide) (br_t (by decide) ?_))⟩⟩⟩
      refine H _ _ _ ⟨fun z => absurd z (by decide), fun _ => ?_⟩
      rw [show zr_v1 1 c x t = none from if_neg (fun z => q z.2)]
      exact ⟨pk_us, pk_us, pk_us⟩
theorem zr_gather {post : St2 → Prop} {x0 : Int32} {v y : Option Nat} (hx0 : x0 = 0) (hv : zr_b 500 v) (hy : zr_b 18 y) (h21 : a21 0 = zr_w y) (h22 : a22 0 = zr_c y) (h23 : a23 0 = zr_c y)
    (h25 : a25 0 = zr_w v) (h26 : a26 0 = zr_c v) (h27 : a27 0 = zr_c v) (h28 : a28 0 = 0) (h29 : a29 0 = -1) (h30 : a30 0 = -1)
    (H : ∀ b28 b29 b30 : Nat → Int32, b28 0 = zr_w (zr_ad v y) → b29 0 = zr_c (zr_ad v y) → b30 0 = zr_c (zr_ad v y) → post (fh, fm, fp, 1, fe, fw, fl, a1, a2, a3, a4, a5, a6, a7, a8, a9, a10, a11, a12, a13, a14, a15, a16, a17, a18, a19, a20, a21, a22, a23, a24, a25, a26, a27, b28, b29, b30, a31, a32, a33, a34)) : wpX_gather post (fh, fm, fp, 1, fe, fw, fl, a1, a2, a3, a4, a5, a6, a7, a8, a9, a10, a11, a12, a13, a14, a15, a16, a17, a18, a19, a20, a21, a22, a23, a24, a25, a26, a27, a28, a29, a30, a31, a32, a33, a34) x0 := by
  subst hx0
  have i10 : vp_in 0 10 := zr_i 10 (by omega) (by omega)
  have i100 : vp_in 0 100 := zr_i 100 (by omega) (by omega)
  have B1 : zr_b 1000 v := zr_b_up hv (by omega)
  have B2 : zr_b 1000 y := zr_b_up hy (by omega)
  have B3 : zr_b 1000 (zr_ad v y) := zr_b_up (zr_b_ad hv hy) (by omega)
  unfold wpX_gather
  dsimp only
  refine ⟨0 + 1 + 1, br_f (by decide) (nm_r (e' := 0) zr_z10 ⟨i10, i10, i100, i10, nm_r (e' := upd a28 0 (zr_w (zr_ad v y))) (by rw [zr_z, h28, h25, h21, zr_w_mul, zr_w_zero]) ⟨i10, i100, ?_⟩⟩)⟩
  refine zr_plus v y (by rw [zr_z, h26]) (by rw [zr_z, h22]) B1 B2 ⟨i10, i100, ?_⟩
  refine zr_plus v y (by rw [zr_z, h27]) (by rw [zr_z, h23]) B1 B2 ⟨i10, ?_⟩
  refine zr_lesser (by rw [zr_z, h29]) ⟨i10, nm_r (e' := upd a29 0 (zr_c (zr_ad v y))) (by rw [zr_z]) ⟨i10, ?_⟩⟩
  refine zr_greater (zr_ad v y) (by rw [zr_z, h30]) rfl B3 ⟨i10, nm_r (e' := upd a30 0 (zr_c (zr_ad v y))) (by rw [zr_z]) (nm_r (e' := 1) (by decide) (br_t (by decide) ?_))⟩
  exact H _ _ _ pk_us pk_us pk_us
theorem zr_a53 {post : St2 → Prop} {v : Option Nat} (h28 : a28 0 = zr_w v) (h29 : a29 0 = zr_c v) (h30 : a30 0 = zr_c v)
    (H : ∀ b25 b26 b27 b28 b29 b30 : Nat → Int32, zr_N 1 v b25 b26 b27 → post (fh, fm, fp, 1, fe, fw, fl, a1, a2, a3, a4, a5, a6, a7, a8, a9, a10, a11, a12, a13, a14, a15, a16, a17, a18, a19, a20, a21, a22, a23, a24, b25, b26, b27, b28, b29, b30, a31, a32, a33, a34)) : ∃ n, wX_advance_53 post fh fm fp 1 fe fw fl n 0 a1 a2 a3 a4 a5 a6 a7 a8 a9 a10 a11 a12 a13 a14 a15 a16 a17 a18 a19 a20 a21 a22 a23 a24 a25 a26 a27 a28 a29 a30 a31 a32 a33 a34 := by
  have i10 : vp_in 0 10 := zr_i 10 (by omega) (by omega)
  refine ⟨0 + 1 + 1, br_f (by decide) ⟨i10, i10, nm_r (e' := upd a25 0 (zr_w v)) (by rw [zr_z, h28]) ⟨i10, i10, nm_r (e' := upd a26 0 (zr_c v)) (by rw [zr_z, h29]) ⟨i10, i10, nm_r (e' := upd a27 0 (zr_c v)) (by rw [zr_z, h30]) (nm_r (e' := 1) (by decide) (br_t (by decide) ?_))⟩⟩⟩⟩
  exact H _ _ _ _ _ _ ⟨fun z => absurd z (by decide), fun _ => ⟨pk_us, pk_us, pk_us⟩⟩
theorem zr_advance {post : St2 → Prop} {k x : Nat} {c t : Int32} {y v : Option Nat} {e : Nat} (ok : zr_ok k c x y e) (hU : zr_U k c x y a14 a15 a16 a17 a18 a19 a20 a21 a22 a23) (hv : zr_b 500 v) (hN : zr_N k v a25 a26 a27)
    (H : ∀ b25 b26 b27 b28 b29 b30 : Nat → Int32, zr_N k (zr_v2 k c y v t) b25 b26 b27 → post (fh, fm, fp, nI k, fe, fw, fl, a1, a2, a3, a4, a5, a6, a7, a8, a9, a10, a11, a12, a13, a14, a15, a16, a17, a18, a19, a20, a21, a22, a23, a24, b25, b26, b27, b28, b29, b30, a31, a32, a33, a34)) : wpX_advance post (fh, fm, fp, nI k, fe, fw, fl, a1, a2, a3, a4, a5, a6, a7, a8, a9, a10, a11, a12, a13, a14, a15, a16, a17, a18, a19, a20, a21, a22, a23, a24, a25, a26, a27, a28, a29, a30, a31, a32, a33, a34) t := by
  have i10 : vp_in 0 10 := zr_i 10 (by omega) (by omega)
  obtain ⟨hk, _, _, hy, hc⟩ := ok
  unfold wpX_advance
  dsimp only
  rcases hk with g | g
  · subst g
    refine ⟨0 + 1, br_t (by decide) ⟨0 + 1, br_t (by decide) (H a25 a26 a27 a28 a29 a30 ⟨fun _ => if_neg (fun z => absurd z.1 (by decide)), fun z => absurd z (by decide)⟩)⟩⟩
  · subst g
    obtain ⟨h14, h15, h16, h17, h18, h19, h20, h21, h22, h23⟩ := hU rfl
    obtain ⟨h25, h26, h27⟩ := hN.2 rfl
    refine ⟨0 + 1 + 1, br_f (by decide) ⟨i10, nm_r (e' := upd a28 0 0) (by rw [zr_z]) ⟨i10, nm_r (e' := upd a29 0 (-1)) (by rw [zr_z]) ⟨i10, nm_r (e' := upd a30 0 (-1)) (by rw [zr_z]) ?_⟩⟩⟩⟩
    refine zr_fits rfl h14 (hc rfl) (fun q => ?_) (fun q => ?_)
    · refine br_f (by decide) ?_
      refine zr_gather rfl hv hy h21 h22 h23 h25 h26 h27 pk_us pk_us pk_us (fun b28 b29 b30 g28 g29 g30 => ?_)
      refine nm_r (e' := 1) (by decide) (br_t (by decide) ?_)
      rw [show zr_v2 1 c y v t = zr_ad v y from if_pos ⟨rfl, q⟩] at H
      exact zr_a53 g28 g29 g30 H
    · refine br_t (by decide) (nm_r (e' := 1) (by decide) (br_t (by decide) ?_))
      rw [show zr_v2 1 c y v t = none from if_neg (fun z => q z.2)] at H
      exact zr_a53 (v := none) pk_us pk_us pk_us H
theorem zr_leave {post : St2 → Prop} {k x j : Nat} {c jj : Int32} {y v : Option Nat} {e : Nat} (ok : zr_ok k c x y e) (hU : zr_U k c x y a14 a15 a16 a17 a18 a19 a20 a21 a22 a23) (hv : zr_b 500 v) (hN : zr_N k v a25 a26 a27) (hj : jj = nI j) (hj9 : j < 9)
    (H : post (fh, fm, fp, nI k, fe, fw, fl, a1, a2, a3, a4, a5, a6, a7, a8, a9, a10, a11, a12, a13, a14, a15, a16, a17, a18, a19, a20, a21, a22, a23, a24, a25, a26, a27, a28, a29, a30, upd a31 j (zr_w v), upd a32 j (zr_c v), upd a33 j (zr_c v), a34)) : wpX_leave post (fh, fm, fp, nI k, fe, fw, fl, a1, a2, a3, a4, a5, a6, a7, a8, a9, a10, a11, a12, a13, a14, a15, a16, a17, a18, a19, a20, a21, a22, a23, a24, a25, a26, a27, a28, a29, a30, a31, a32, a33, a34) jj := by
  have i10 : vp_in 0 10 := zr_i 10 (by omega) (by omega)
  have i9 : vp_in jj 9 := pk_in j 9 hj9 hj
  have hcl : jj.toNatClampNeg = j := pk_cl j hj
  have B1 : zr_b 1000 v := zr_b_up hv (by omega)
  have B0 : zr_b 1000 (some 0) := zr_b_some (by omega)
  obtain ⟨hk, _, _, hy, hc⟩ := ok
  unfold wpX_leave
  dsimp only
  rcases hk with g | g
  · subst g
    have hvn : v = none := hN.1 rfl
    subst hvn
    exact ⟨0 + 1, br_t (by decide) ⟨i9, nm_r (e' := upd a31 j (zr_w none)) (by rw [hcl]; rfl) ⟨i9, nm_r (e' := upd a32 j (zr_c none)) (by rw [hcl]; rfl) ⟨i9, nm_r (e' := upd a33 j (zr_c none)) (by rw [hcl]; rfl) H⟩⟩⟩⟩
  · subst g
    obtain ⟨h14, h15, h16, h17, h18, h19, h20, h21, h22, h23⟩ := hU rfl
    obtain ⟨h25, h26, h27⟩ := hN.2 rfl
    refine ⟨0 + 1 + 1, br_f (by decide) ⟨i10, i10, nm_r (e' := zr_w v) (by rw [zr_z, h25, h18, zr_w_one, zr_w_zero]) ⟨i10, i10, ?_⟩⟩⟩
    refine zr_plus v (some 0) (by rw [zr_z, h26]) (by rw [zr_z, h19]; rfl) B1 B0 ⟨i10, i10, ?_⟩
    refine zr_plus v (some 0) (by rw [zr_z, h27]) (by rw [zr_z, h20]; rfl) B1 B0 ?_
    rw [zr_ad_0]
    refine zr_lesser rfl (zr_greater v rfl rfl B1 (nm_r (e' := 1) (by decide) (br_t (by decide) ?_)))
    exact ⟨i9, nm_r (e' := upd a31 j (zr_w v)) (by rw [hcl]) ⟨i9, nm_r (e' := upd a32 j (zr_c v)) (by rw [hcl]) ⟨i9, nm_r (e' := upd a33 j (zr_c v)) (by rw [hcl]) H⟩⟩⟩
end
end
section
section
variable {fh fm fp fc fe fw fl : Int32} {a1 a2 a3 a4 a5 a6 a7 a8 a9 a10 a11 a12 a13 a14 a15 a16 a17 a18 a19 a20 a21 a22 a23 a24 a25 a26 a27 a28 a29 a30 a31 a32 a33 a34 : Nat → Int32}
theorem zr_s42 {post : St2 → Prop} {k x e i n : Nat} {c : Int32} {y : Option Nat} (ok : zr_ok k c x y e) (hU : zr_U k c x y a14 a15 a16 a17 a18 a19 a20 a21 a22 a23) (hin : i ≤ n) (hn : n ≤ 8)
    (h31 : a31 i = zr_w (zr_vs k c x y e a24 i 0)) (h32 : a32 i = zr_c (zr_vs k c x y e a24 i 0)) (h33 : a33 i = zr_c (zr_vs k c x y e a24 i 0))
    (H : ∀ b25 b26 b27 b28 b29 b30 b31 b32 b33 : Nat → Int32, (∀ q, i ≤ q → q ≤ n → b31 q = zr_w (zr_vs k c x y e a24 i (q - i)) ∧ b32 q = zr_c (zr_vs k c x y e a24 i (q - i)) ∧ b33 q = zr_c (zr_vs k c x y e a24 i (q - i))) → post (fh, fm, fp, nI k, fe, fw, nI n, a1, a2, a3, a4, a5, a6, a7, a8, a9, a10, a11, a12, a13, a14, a15, a16, a17, a18, a19, a20, a21, a22, a23, a24, b25, b26, b27, b28, b29, b30, b31, b32, b33, a34)) :
    ∃ f, wX_sweep_42 post (nI i) f (nI i) fh fm fp (nI k) fe fw (nI n) a1 a2 a3 a4 a5 a6 a7 a8 a9 a10 a11 a12 a13 a14 a15 a16 a17 a18 a19 a20 a21 a22 a23 a24 a25 a26 a27 a28 a29 a30 a31 a32 a33 a34 := by
  refine pk_loop (fun f j (s : (Nat → Int32) × (Nat → Int32) × (Nat → Int32) × (Nat → Int32) × (Nat → Int32) × (Nat → Int32) × (Nat → Int32) × (Nat → Int32) × (Nat → Int32)) => wX_sweep_42 post (nI i) f (nI j) fh fm fp (nI k) fe fw (nI n) a1 a2 a3 a4 a5 a6 a7 a8 a9 a10 a11 a12 a13 a14 a15 a16 a17 a18 a19 a20 a21 a22 a23 a24 s.1 s.2.1 s.2.2.1 s.2.2.2.1 s.2.2.2.2.1 s.2.2.2.2.2.1 s.2.2.2.2.2.2.1 s.2.2.2.2.2.2.2.1 s.2.2.2.2.2.2.2.2 a34)
    (fun j s => i ≤ j ∧ (i < j → zr_N k (zr_vs k c x y e a24 i (j - i)) s.1 s.2.1 s.2.2.1) ∧ (∀ q, i ≤ q → q ≤ j → s.2.2.2.2.2.2.1 q = zr_w (zr_vs k c x y e a24 i (q - i)) ∧ s.2.2.2.2.2.2.2.1 q = zr_c (zr_vs k c x y e a24 i (q - i)) ∧ s.2.2.2.2.2.2.2.2 q = zr_c (zr_vs k c x y e a24 i (q - i))))
    n i (a25, a26, a27, a28, a29, a30, a31, a32, a33) hin ⟨Nat.le_refl i, fun z => absurd z (Nat.lt_irrefl i), fun q h1 h2 => ?_⟩ ?_ ?_
  · have e0 : q = i := by omega
    subst e0
    rw [Nat.sub_self]
    exact ⟨h31, h32, h33⟩
  · intro f s h
    exact pk_le n n (fun _ => H _ _ _ _ _ _ _ _ _ h.2.2) (fun z => absurd z (by omega))
  · intro f j s hj h hw
    obtain ⟨hij, hN, hG⟩ := h
    have bd : ∀ m, m ≤ 8 → zr_b 500 (zr_vs k c x y e a24 i m) := fun m hm => zr_b_up (zr_vs_b ok m) (by omega)
    have hcl : (nI j).toNatClampNeg = j := pk_cl j
    have key : ∀ b25 b26 b27 b28 b29 b30 : Nat → Int32, zr_N k (zr_vs k c x y e a24 i (j + 1 - i)) b25 b26 b27 → wX_sweep_78 post (wX_sweep_42 post (nI i) f) (nI i) (nI j) fh fm fp (nI k) fe fw (nI n) a1 a2 a3 a4 a5 a6 a7 a8 a9 a10 a11 a12 a13 a14 a15 a16 a17 a18 a19 a20 a21 a22 a23 a24 b25 b26 b27 b28 b29 b30 s.2.2.2.2.2.2.1 s.2.2.2.2.2.2.2.1 s.2.2.2.2.2.2.2.2 a34 := by
      intro b25 b26 b27 b28 b29 b30 gN
      unfold wX_sweep_78
      refine zr_leave ok hU (bd (j + 1 - i) (by omega)) gN (nI_1 j) (by omega) ?_
      refine nm_r (nI_1 j) ?_
      refine hw (b25, b26, b27, b28, b29, b30, upd s.2.2.2.2.2.2.1 (j + 1) (zr_w (zr_vs k c x y e a24 i (j + 1 - i))), upd s.2.2.2.2.2.2.2.1 (j + 1) (zr_c (zr_vs k c x y e a24 i (j + 1 - i))), upd s.2.2.2.2.2.2.2.2 (j + 1) (zr_c (zr_vs k c x y e a24 i (j + 1 - i)))) ⟨by omega, fun _ => gN, fun q h1 h2 => ?_⟩
      dsimp only
      by_cases eq : q = j + 1
      · rw [eq, pk_us, pk_us, pk_us]
        exact ⟨rfl, rfl, rfl⟩
      · rw [pk_un eq, pk_un eq, pk_un eq]
        exact hG q h1 (by omega)
    refine pk_le n j (fun z => absurd z (by omega)) (fun _ => ?_)
    refine pk_eq j i (fun z => ⟨pk_in j 8 (by omega), ?_⟩) (fun z => ⟨pk_in j 8 (by omega), ?_⟩)
    · rw [hcl]
      refine zr_enter ok hU (fun b25 b26 b27 gN => ?_)
      refine key b25 b26 b27 _ _ _ ?_
      rw [z, show i + 1 - i = 1 by omega]
      rw [z] at gN
      exact gN
    · rw [hcl]
      obtain ⟨m, hm⟩ : ∃ m, j = i + m + 1 := ⟨j - i - 1, by omega⟩
      have hN' := hN (by omega)
      rw [show j - i = m + 1 by omega] at hN'
      refine zr_advance ok hU (bd (m + 1) (by omega)) hN' (fun b25 b26 b27 b28 b29 b30 gN => ?_)
      refine key b25 b26 b27 b28 b29 b30 ?_
      rw [show j + 1 - i = m + 2 by omega]
      rw [hm] at gN
      exact gN
/-- what a sweep from i leaves: the weights of the windows from i -/
def zr_got (k : Nat) (c : Int32) (x : Nat) (y : Option Nat) (e : Nat) (t : Nat → Int32) (i n : Nat) (b31 b32 b33 : Nat → Int32) : Prop :=
  ∀ q, i ≤ q → q ≤ n → b31 q = zr_w (zr_vs k c x y e t i (q - i)) ∧ b32 q = zr_c (zr_vs k c x y e t i (q - i)) ∧ b33 q = zr_c (zr_vs k c x y e t i (q - i))
theorem zr_sweep {post : St2 → Prop} {k x e n : Nat} {c x0 : Int32} {y : Option Nat} (i : Nat) (hx0 : x0 = nI i) (ok : zr_ok k c x y e) (hU : zr_U k c x y a14 a15 a16 a17 a18 a19 a20 a21 a22 a23) (hin : i ≤ n) (hn : n ≤ 8)
    (H : ∀ b25 b26 b27 b28 b29 b30 b31 b32 b33 : Nat → Int32, zr_got k c x y e a24 i n b31 b32 b33 → post (fh, fm, fp, nI k, nI e, nI e, nI n, a1, a2, a3, a4, a5, a6, a7, a8, a9, a10, a11, a12, a13, a14, a15, a16, a17, a18, a19, a20, a21, a22, a23, a24, b25, b26, b27, b28, b29, b30, b31, b32, b33, a34)) : wpX_sweep post (fh, fm, fp, nI k, nI e, nI e, nI n, a1, a2, a3, a4, a5, a6, a7, a8, a9, a10, a11, a12, a13, a14, a15, a16, a17, a18, a19, a20, a21, a22, a23, a24, a25, a26, a27, a28, a29, a30, a31, a32, a33, a34) x0 := by
  have i9 : vp_in x0 9 := pk_in i 9 (by omega) hx0
  have hcl : x0.toNatClampNeg = i := pk_cl i hx0
  have he := ok.2.1
  subst hx0
  unfold wpX_sweep
  dsimp only
  rw [hcl]
  refine ⟨i9, nm_e ?_⟩
  rcases he with g | g
  · subst g
    have e0 : zr_vs k c x y 0 a24 i 0 = none := rfl
    refine br_t (by decide) ?_
    unfold wX_sweep_27
    refine ⟨i9, nm_r (e' := upd a32 i (-1)) (by rw [hcl]) ⟨i9, i9, nm_r (e' := upd a33 i (-1)) (by rw [hcl, pk_us]) ?_⟩⟩
    refine zr_s42 ok hU hin hn ?_ ?_ ?_ H
    · rw [pk_us, e0]
      rfl
    · rw [pk_us, e0]
      rfl
    · rw [pk_us, e0]
      rfl
  · subst g
    have e0 : zr_vs k c x y 1 a24 i 0 = some 0 := rfl
    refine br_f (by decide) ?_
    unfold wX_sweep_27
    refine ⟨i9, nm_r (e' := upd a32 i 0) (by rw [hcl]) ⟨i9, i9, nm_r (e' := upd a33 i 0) (by rw [hcl, pk_us]) ?_⟩⟩
    refine zr_s42 ok hU hin hn ?_ ?_ ?_ H
    · rw [pk_us, e0]
      rfl
    · rw [pk_us, e0]
      rfl
    · rw [pk_us, e0]
      rfl
end
end
section
/-! ===== the questions ===== -/
def zr_q : Option Nat → Int32
  | none => -4
  | some m => nI m
/-- the longest window: the last place with a way -/
def zr_lo (V : Nat → Option Nat) : Nat → Int32
  | 0 => if V 0 = none then -4 else 0
  | n + 1 => if V (n + 1) = none then zr_lo V n else nI (n + 1)
theorem zr_2 : (2 : Int32).toNatClampNeg = 2 := by decide
section
variable {fh fm fp fc fe fw fl : Int32} {a1 a2 a3 a4 a5 a6 a7 a8 a9 a10 a11 a12 a13 a14 a15 a16 a17 a18 a19 a20 a21 a22 a23 a24 a25 a26 a27 a28 a29 a30 a31 a32 a33 a34 : Nat → Int32}
theorem zr_window {post : Int32 → Prop} {n : Nat} (hn : n ≤ 8) (H0 : n < 2 → post 0) (H1 : ¬ n < 2 → post 1) : wpX_window post (fh, fm, fp, fc, fe, fw, nI n, a1, a2, a3, a4, a5, a6, a7, a8, a9, a10, a11, a12, a13, a14, a15, a16, a17, a18, a19, a20, a21, a22, a23, a24, a25, a26, a27, a28, a29, a30, a31, a32, a33, a34) 0 2 := by
  unfold wpX_window
  dsimp only
  exact br_f (by decide) (br_f (by decide) (pk_lt n 2 H0 (fun z => H1 (by omega))))
theorem zr_ways {post : Int32 → St2 → Prop} {k x e n : Nat} {c : Int32} {y : Option Nat} (ok : zr_ok k c x y e) (hU : zr_U k c x y a14 a15 a16 a17 a18 a19 a20 a21 a22 a23) (hn : n ≤ 8)
    (H : ∀ b25 b26 b27 b28 b29 b30 b31 b32 b33 : Nat → Int32, post (if n < 2 then 0 else zr_w (zr_vs k c x y e a24 0 2)) (fh, fm, fp, nI k, nI e, nI e, nI n, a1, a2, a3, a4, a5, a6, a7, a8, a9, a10, a11, a12, a13, a14, a15, a16, a17, a18, a19, a20, a21, a22, a23, a24, b25, b26, b27, b28, b29, b30, b31, b32, b33, a34)) : wpX_ways post (fh, fm, fp, nI k, nI e, nI e, nI n, a1, a2, a3, a4, a5, a6, a7, a8, a9, a10, a11, a12, a13, a14, a15, a16, a17, a18, a19, a20, a21, a22, a23, a24, a25, a26, a27, a28, a29, a30, a31, a32, a33, a34) 0 2 := by
  unfold wpX_ways
  dsimp only
  refine zr_window hn (fun z => br_t rfl ?_) (fun z => br_f (by decide) ?_)
  · have h := H a25 a26 a27 a28 a29 a30 a31 a32 a33
    rw [if_pos z] at h
    exact h
  · refine zr_sweep 0 rfl ok hU (by omega) hn (fun b25 b26 b27 b28 b29 b30 b31 b32 b33 hG => ?_)
    dsimp only
    refine ⟨pk_in 2 9 (by omega), ?_⟩
    have h := H b25 b26 b27 b28 b29 b30 b31 b32 b33
    rw [if_neg z] at h
    have g := (hG 2 (by omega) (by omega)).1
    rw [zr_2, g]
    exact h
theorem zr_least {post : Int32 → St2 → Prop} {k x e n : Nat} {c : Int32} {y : Option Nat} (ok : zr_ok k c x y e) (hU : zr_U k c x y a14 a15 a16 a17 a18 a19 a20 a21 a22 a23) (hn : n ≤ 8)
    (H : ∀ b25 b26 b27 b28 b29 b30 b31 b32 b33 : Nat → Int32, post (if n < 2 then -1 else zr_q (zr_vs k c x y e a24 0 2)) (fh, fm, fp, nI k, nI e, nI e, nI n, a1, a2, a3, a4, a5, a6, a7, a8, a9, a10, a11, a12, a13, a14, a15, a16, a17, a18, a19, a20, a21, a22, a23, a24, b25, b26, b27, b28, b29, b30, b31, b32, b33, a34)) : wpX_least post (fh, fm, fp, nI k, nI e, nI e, nI n, a1, a2, a3, a4, a5, a6, a7, a8, a9, a10, a11, a12, a13, a14, a15, a16, a17, a18, a19, a20, a21, a22, a23, a24, a25, a26, a27, a28, a29, a30, a31, a32, a33, a34) 0 2 := by
  have i9 : vp_in 2 9 := pk_in 2 9 (by omega)
  have bd : zr_b 1000 (zr_vs k c x y e a24 0 2) := zr_b_up (zr_vs_b ok 2) (by omega)
  unfold wpX_least
  dsimp only
  refine zr_window hn (fun z => br_t rfl ?_) (fun z => br_f (by decide) ?_)
  · have h := H a25 a26 a27 a28 a29 a30 a31 a32 a33
    rw [if_pos z] at h
    exact h
  · refine zr_sweep 0 rfl ok hU (by omega) hn (fun b25 b26 b27 b28 b29 b30 b31 b32 b33 hG => ?_)
    dsimp only
    refine ⟨i9, ?_⟩
    have h := H b25 b26 b27 b28 b29 b30 b31 b32 b33
    rw [if_neg z] at h
    have g : b32 2 = zr_c (zr_vs k c x y e a24 0 2) := (hG 2 (by omega) (by omega)).2.1
    rw [zr_2, g]
    generalize zr_vs k c x y e a24 0 2 = v at h bd
    cases v with
    | none => exact br_f (by decide) h
    | some m => exact br_t (nI_pos' (Nat.lt_of_le_of_lt (bd m rfl) (by decide))) ⟨i9, h⟩
theorem zr_most {post : Int32 → St2 → Prop} {k x e n : Nat} {c : Int32} {y : Option Nat} (ok : zr_ok k c x y e) (hU : zr_U k c x y a14 a15 a16 a17 a18 a19 a20 a21 a22 a23) (hn : n ≤ 8)
    (H : ∀ b25 b26 b27 b28 b29 b30 b31 b32 b33 : Nat → Int32, post (if n < 2 then -1 else zr_q (zr_vs k c x y e a24 0 2)) (fh, fm, fp, nI k, nI e, nI e, nI n, a1, a2, a3, a4, a5, a6, a7, a8, a9, a10, a11, a12, a13, a14, a15, a16, a17, a18, a19, a20, a21, a22, a23, a24, b25, b26, b27, b28, b29, b30, b31, b32, b33, a34)) : wpX_most post (fh, fm, fp, nI k, nI e, nI e, nI n, a1, a2, a3, a4, a5, a6, a7, a8, a9, a10, a11, a12, a13, a14, a15, a16, a17, a18, a19, a20, a21, a22, a23, a24, a25, a26, a27, a28, a29, a30, a31, a32, a33, a34) 0 2 := by
  have i9 : vp_in 2 9 := pk_in 2 9 (by omega)
  have bd : zr_b 1000 (zr_vs k c x y e a24 0 2) := zr_b_up (zr_vs_b ok 2) (by omega)
  unfold wpX_most
  dsimp only
  refine zr_window hn (fun z => br_t rfl ?_) (fun z => br_f (by decide) ?_)
  · have h := H a25 a26 a27 a28 a29 a30 a31 a32 a33
    rw [if_pos z] at h
    exact h
  · refine zr_sweep 0 rfl ok hU (by omega) hn (fun b25 b26 b27 b28 b29 b30 b31 b32 b33 hG => ?_)
    dsimp only
    refine ⟨i9, ?_⟩
    have h := H b25 b26 b27 b28 b29 b30 b31 b32 b33
    rw [if_neg z] at h
    have g : b33 2 = zr_c (zr_vs k c x y e a24 0 2) := (hG 2 (by omega) (by omega)).2.2
    rw [zr_2, g]
    generalize zr_vs k c x y e a24 0 2 = v at h bd
    cases v with
    | none => exact br_f (by decide) h
    | some m => exact br_t (nI_pos' (Nat.lt_of_le_of_lt (bd m rfl) (by decide))) ⟨i9, h⟩
theorem zr_l24 {post : Int32 → St2 → Prop} {V : Nat → Option Nat} : ∀ (n : Nat), n ≤ 8 → (∀ q, q ≤ n → a32 q = zr_c (V q) ∧ zr_b 1000 (V q)) → post (zr_lo V n) (fh, fm, fp, fc, fe, fw, fl, a1, a2, a3, a4, a5, a6, a7, a8, a9, a10, a11, a12, a13, a14, a15, a16, a17, a18, a19, a20, a21, a22, a23, a24, a25, a26, a27, a28, a29, a30, a31, a32, a33, a34) → wX_longest_24 post 0 fh fm fp fc fe fw fl a1 a2 a3 a4 a5 a6 a7 a8 a9 a10 a11 a12 a13 a14 a15 a16 a17 a18 a19 a20 a21 a22 a23 a24 a25 a26 a27 a28 a29 a30 a31 a32 a33 a34 (n + 1 + 1) (nI n)
  | 0, _, hV, H => by
    have h0 := hV 0 (by omega)
    have hcl : (nI 0).toNatClampNeg = 0 := pk_cl 0
    refine br_f (by decide) ⟨pk_in 0 9 (by omega), ?_⟩
    rw [hcl, h0.1]
    refine br_c (fun g => nm_r (e' := -1) (by decide) (br_t (by decide) ?_)) (fun g => ?_)
    · have e : zr_lo V 0 = -4 := if_pos ((zr_c_neg h0.2).mp g)
      rw [e] at H
      exact H
    · have e : zr_lo V 0 = 0 := if_neg (fun z => g ((zr_c_neg h0.2).mpr z))
      rw [e] at H
      exact H
  | n + 1, hn, hV, H => by
    have h0 := hV (n + 1) (by omega)
    have hcl : (nI (n + 1)).toNatClampNeg = n + 1 := pk_cl (n + 1)
    refine br_f (nI_pos (by omega)) ⟨pk_in (n + 1) 9 (by omega), ?_⟩
    rw [hcl, h0.1]
    refine br_c (fun g => nm_r (pk_m1 n) (zr_l24 n (by omega) (fun q hq => hV q (by omega)) ?_)) (fun g => ?_)
    · have e : zr_lo V (n + 1) = zr_lo V n := if_pos ((zr_c_neg h0.2).mp g)
      rw [e] at H
      exact H
    · have e : zr_lo V (n + 1) = nI (n + 1) := if_neg (fun z => g ((zr_c_neg h0.2).mpr z))
      rw [e] at H
      exact H
theorem zr_longest {post : Int32 → St2 → Prop} {k x e n : Nat} {c : Int32} {y : Option Nat} (ok : zr_ok k c x y e) (hU : zr_U k c x y a14 a15 a16 a17 a18 a19 a20 a21 a22 a23) (hn : n ≤ 8)
    (H : ∀ b25 b26 b27 b28 b29 b30 b31 b32 b33 : Nat → Int32, post (zr_lo (zr_vs k c x y e a24 0) n) (fh, fm, fp, nI k, nI e, nI e, nI n, a1, a2, a3, a4, a5, a6, a7, a8, a9, a10, a11, a12, a13, a14, a15, a16, a17, a18, a19, a20, a21, a22, a23, a24, b25, b26, b27, b28, b29, b30, b31, b32, b33, a34)) : wpX_longest post (fh, fm, fp, nI k, nI e, nI e, nI n, a1, a2, a3, a4, a5, a6, a7, a8, a9, a10, a11, a12, a13, a14, a15, a16, a17, a18, a19, a20, a21, a22, a23, a24, a25, a26, a27, a28, a29, a30, a31, a32, a33, a34) 0 := by
  unfold wpX_longest
  dsimp only
  refine br_f (by decide) (br_t (nI_le (a := 0) (by omega) (by omega)) ?_)
  refine zr_sweep 0 rfl ok hU (by omega) hn (fun b25 b26 b27 b28 b29 b30 b31 b32 b33 hG => ?_)
  refine ⟨n + 1 + 1, zr_l24 n hn (fun q hq => ⟨(hG q (by omega) hq).2.1, zr_b_up (zr_vs_b ok q) (by omega)⟩) (H b25 b26 b27 b28 b29 b30 b31 b32 b33)⟩
end
end
section
/-! ===== cover ===== -/
/-- relax over the picture of paid -/
def zr_rl (P : Nat → Nat) (i j : Nat) (v : Option Nat) (q : Nat) : Nat := match v with
  | none => P q
  | some m => if q = j ∧ P i + m < P j then P i + m else P q
/-- the inner loop: windows of length 1 .. m from i -/
def zr_ri (V : Nat → Option Nat) (i : Nat) (P : Nat → Nat) : Nat → Nat → Nat
  | 0 => P
  | m + 1 => zr_rl (zr_ri V i P m) i (i + 1 + m) (V (m + 1))
/-- the outer loop -/
def zr_ro (W : Nat → Nat → Option Nat) (n : Nat) : Nat → Nat → Nat
  | 0 => fun j => j * 12
  | i + 1 => zr_ri (W i) i (zr_rl (zr_ro W n i) i (i + 1) (some 12)) (n - i)
theorem zr_rl_le (P : Nat → Nat) (i j : Nat) (v : Option Nat) (q : Nat) : zr_rl P i j v q ≤ P q := by
  cases v with
  | none => exact Nat.le_refl _
  | some m =>
    show (if q = j ∧ P i + m < P j then P i + m else P q) ≤ P q
    by_cases g : q = j ∧ P i + m < P j
    · rw [if_pos g, g.1]
      omega
    · rw [if_neg g]
      exact Nat.le_refl _
theorem zr_ri_le (V : Nat → Option Nat) (i : Nat) (P : Nat → Nat) (q : Nat) : ∀ m, zr_ri V i P m q ≤ P q
  | 0 => Nat.le_refl _
  | m + 1 => Nat.le_trans (zr_rl_le (zr_ri V i P m) i (i + 1 + m) (V (m + 1)) q) (zr_ri_le V i P q m)
theorem zr_ro_le (W : Nat → Nat → Option Nat) (n q : Nat) : ∀ i, zr_ro W n i q ≤ q * 12
  | 0 => Nat.le_refl _
  | i + 1 => Nat.le_trans (zr_ri_le (W i) i (zr_rl (zr_ro W n i) i (i + 1) (some 12)) q (n - i)) (Nat.le_trans (zr_rl_le (zr_ro W n i) i (i + 1) (some 12) q) (zr_ro_le W n q i))
section
variable {fh fm fp fc fe fw fl : Int32} {a1 a2 a3 a4 a5 a6 a7 a8 a9 a10 a11 a12 a13 a14 a15 a16 a17 a18 a19 a20 a21 a22 a23 a24 a25 a26 a27 a28 a29 a30 a31 a32 a33 a34 : Nat → Int32}
theorem zr_relax {post : St2 → Prop} {x0 x1 x2 : Int32} {n : Nat} {P : Nat → Nat} (i j : Nat) (v : Option Nat) (hx0 : x0 = nI i) (hx1 : x1 = nI j) (hx2 : x2 = zr_c v) (hi : i ≤ n) (hj : j ≤ n) (hn : n ≤ 8) (hv : zr_b 1000 v)
    (hP : ∀ q, q ≤ n → a34 q = nI (P q) ∧ P q ≤ 1000) (H : ∀ b34 : Nat → Int32, (∀ q, q ≤ n → b34 q = nI (zr_rl P i j v q)) → post (fh, fm, fp, fc, fe, fw, fl, a1, a2, a3, a4, a5, a6, a7, a8, a9, a10, a11, a12, a13, a14, a15, a16, a17, a18, a19, a20, a21, a22, a23, a24, a25, a26, a27, a28, a29, a30, a31, a32, a33, b34)) : wpX_relax post (fh, fm, fp, fc, fe, fw, fl, a1, a2, a3, a4, a5, a6, a7, a8, a9, a10, a11, a12, a13, a14, a15, a16, a17, a18, a19, a20, a21, a22, a23, a24, a25, a26, a27, a28, a29, a30, a31, a32, a33, a34) x0 x1 x2 := by
  have i0 : vp_in x0 9 := pk_in i 9 (by omega) hx0
  have i1 : vp_in x1 9 := pk_in j 9 (by omega) hx1
  have c0 : x0.toNatClampNeg = i := pk_cl i hx0
  have c1 : x1.toNatClampNeg = j := pk_cl j hx1
  have pi := hP i hi
  have pj := hP j hj
  unfold wpX_relax
  dsimp only
  rw [c0, c1]
  cases v with
  | none => exact br_t (by rw [hx2]; decide) (H a34 (fun q hq => (hP q hq).1))
  | some m =>
    have hm : m ≤ 1000 := hv m rfl
    have es : a34 i + x2 = nI (P i + m) := by
      rw [pi.1, hx2]
      exact nI_add (P i) m
    rw [es, pj.1]
    refine br_f (by rw [hx2]; exact nI_pos (by omega)) ⟨i0, i1, pk_le (P j) (P i + m) (fun z => ?_) (fun z => ?_)⟩
    · refine H a34 (fun q hq => ?_)
      have e : zr_rl P i j (some m) q = P q := if_neg (fun t => absurd t.2 (by omega))
      rw [e]
      exact (hP q hq).1
    · refine ⟨i0, i1, nm_e (H _ (fun q hq => ?_))⟩
      by_cases g : q = j
      · have e : zr_rl P i j (some m) q = P i + m := if_pos ⟨g, z⟩
        rw [e, g, pk_us]
      · have e : zr_rl P i j (some m) q = P q := if_neg (fun t => g t.1)
        rw [e, pk_un g]
        exact (hP q hq).1
theorem zr_c55 {post : Int32 → St2 → Prop} {J : Int32 → Int32 → Int32 → Int32 → Int32 → Int32 → Int32 → Int32 → (Nat → Int32) → (Nat → Int32) → (Nat → Int32) → (Nat → Int32) → (Nat → Int32) → (Nat → Int32) → (Nat → Int32) → (Nat → Int32) → (Nat → Int32) → (Nat → Int32) → (Nat → Int32) → (Nat → Int32) → (Nat → Int32) → (Nat → Int32) → (Nat → Int32) → (Nat → Int32) → (Nat → Int32) → (Nat → Int32) → (Nat → Int32) → (Nat → Int32) → (Nat → Int32) → (Nat → Int32) → (Nat → Int32) → (Nat → Int32) → (Nat → Int32) → (Nat → Int32) → (Nat → Int32) → (Nat → Int32) → (Nat → Int32) → (Nat → Int32) → (Nat → Int32) → (Nat → Int32) → (Nat → Int32) → (Nat → Int32) → Prop}
    {n i : Nat} {P : Nat → Nat} {V : Nat → Option Nat} (hi : i < n) (hn : n ≤ 8) (hV : ∀ q, i ≤ q → q ≤ n → a32 q = zr_c (V (q - i)) ∧ zr_b 1000 (V (q - i))) (hP : ∀ q, q ≤ n → a34 q = nI (P q) ∧ P q ≤ 1000)
    (H : ∀ b34 : Nat → Int32, (∀ q, q ≤ n → b34 q = nI (zr_ri V i P (n - i) q)) → J (nI (i + 1)) fh fm fp fc fe fw (nI n) a1 a2 a3 a4 a5 a6 a7 a8 a9 a10 a11 a12 a13 a14 a15 a16 a17 a18 a19 a20 a21 a22 a23 a24 a25 a26 a27 a28 a29 a30 a31 a32 a33 b34) : ∃ f, wX_cover_55 post J (nI i) f (nI (i + 1)) fh fm fp fc fe fw (nI n) a1 a2 a3 a4 a5 a6 a7 a8 a9 a10 a11 a12 a13 a14 a15 a16 a17 a18 a19 a20 a21 a22 a23 a24 a25 a26 a27 a28 a29 a30 a31 a32 a33 a34 := by
  refine pk_loop (fun f j (s : Nat → Int32) => wX_cover_55 post J (nI i) f (nI j) fh fm fp fc fe fw (nI n) a1 a2 a3 a4 a5 a6 a7 a8 a9 a10 a11 a12 a13 a14 a15 a16 a17 a18 a19 a20 a21 a22 a23 a24 a25 a26 a27 a28 a29 a30 a31 a32 a33 s) (fun j s => i + 1 ≤ j ∧ ∀ q, q ≤ n → s q = nI (zr_ri V i P (j - (i + 1)) q)) (n + 1) (i + 1) a34 (by omega) ⟨Nat.le_refl _, fun q hq => ?_⟩ ?_ ?_
  · rw [Nat.sub_self]
    exact (hP q hq).1
  · intro f s h
    refine pk_lt n (n + 1) (fun _ => nm_r (nI_1 i) (H s (fun q hq => ?_))) (fun z => absurd z (by omega))
    have g := h.2 q hq
    rw [show n + 1 - (i + 1) = n - i by omega] at g
    exact g
  · intro f j s hj h hw
    have hcl : (nI j).toNatClampNeg = j := pk_cl j
    have gV := hV j (by omega) (by omega)
    refine pk_lt n j (fun z => absurd z (by omega)) (fun _ => ⟨pk_in j 9 (by omega), ?_⟩)
    rw [hcl]
    refine zr_relax (n := n) i j (V (j - i)) rfl rfl gV.1 (by omega) (by omega) hn gV.2 (fun q hq => ⟨h.2 q hq, Nat.le_trans (zr_ri_le V i P q _) (hP q hq).2⟩) (fun b34 hb => ?_)
    refine nm_r (nI_1 j) (hw b34 ⟨by omega, fun q hq => ?_⟩)
    rw [hb q hq]
    obtain ⟨m, hm⟩ : ∃ m, j = i + 1 + m := ⟨j - (i + 1), by omega⟩
    have ih := h.1
    rw [show j + 1 - (i + 1) = m + 1 by omega, show j - (i + 1) = m by omega, show j - i = m + 1 by omega, hm]
    rfl
theorem zr_c28 {post : Int32 → St2 → Prop} {k x e n : Nat} {c : Int32} {y : Option Nat} (ok : zr_ok k c x y e) (hU : zr_U k c x y a14 a15 a16 a17 a18 a19 a20 a21 a22 a23) (hn : n ≤ 8) (hP : ∀ q, q ≤ n → a34 q = nI (q * 12))
    (H : ∀ b25 b26 b27 b28 b29 b30 b31 b32 b33 b34 : Nat → Int32, post (nI (zr_ro (zr_vs k c x y e a24) n n n)) (fh, fm, fp, nI k, nI e, nI e, nI n, a1, a2, a3, a4, a5, a6, a7, a8, a9, a10, a11, a12, a13, a14, a15, a16, a17, a18, a19, a20, a21, a22, a23, a24, b25, b26, b27, b28, b29, b30, b31, b32, b33, b34)) : ∃ f, wX_cover_28 post f 0 fh fm fp (nI k) (nI e) (nI e) (nI n) a1 a2 a3 a4 a5 a6 a7 a8 a9 a10 a11 a12 a13 a14 a15 a16 a17 a18 a19 a20 a21 a22 a23 a24 a25 a26 a27 a28 a29 a30 a31 a32 a33 a34 := by
  refine pk_loop (fun f j (s : (Nat → Int32) × (Nat → Int32) × (Nat → Int32) × (Nat → Int32) × (Nat → Int32) × (Nat → Int32) × (Nat → Int32) × (Nat → Int32) × (Nat → Int32) × (Nat → Int32)) => wX_cover_28 post f (nI j) fh fm fp (nI k) (nI e) (nI e) (nI n) a1 a2 a3 a4 a5 a6 a7 a8 a9 a10 a11 a12 a13 a14 a15 a16 a17 a18 a19 a20 a21 a22 a23 a24 s.1 s.2.1 s.2.2.1 s.2.2.2.1 s.2.2.2.2.1 s.2.2.2.2.2.1 s.2.2.2.2.2.2.1 s.2.2.2.2.2.2.2.1 s.2.2.2.2.2.2.2.2.1 s.2.2.2.2.2.2.2.2.2)
    (fun j s => ∀ q, q ≤ n → s.2.2.2.2.2.2.2.2.2 q = nI (zr_ro (zr_vs k c x y e a24) n j q)) n 0 (a25, a26, a27, a28, a29, a30, a31, a32, a33, a34) (by omega) hP ?_ ?_
  · intro f s h
    have hcl : (nI n).toNatClampNeg = n := pk_cl n
    refine pk_le n n (fun _ => ⟨pk_in n 9 (by omega), ?_⟩) (fun z => absurd z (by omega))
    rw [hcl, h n (Nat.le_refl n)]
    exact H _ _ _ _ _ _ _ _ _ _
  · intro f i s hi h hw
    have bd : ∀ q, q ≤ n → zr_ro (zr_vs k c x y e a24) n i q ≤ 1000 := fun q hq => Nat.le_trans (zr_ro_le _ n q i) (by omega)
    refine pk_le n i (fun z => absurd z (by omega)) (fun _ => ?_)
    refine zr_sweep i rfl ok hU (by omega) hn (fun b25 b26 b27 b28 b29 b30 b31 b32 b33 hG => ?_)
    refine zr_relax (n := n) (P := zr_ro (zr_vs k c x y e a24) n i) i (i + 1) (some 12) rfl (nI_1 i) rfl (by omega) (by omega) hn (zr_b_some (by omega)) (fun q hq => ⟨h q hq, bd q hq⟩) (fun b34 hb => ?_)
    refine nm_r (nI_1 i) ?_
    refine zr_c55 (V := zr_vs k c x y e a24 i) (P := zr_rl (zr_ro (zr_vs k c x y e a24) n i) i (i + 1) (some 12)) hi hn (fun q h1 h2 => ⟨(hG q h1 h2).2.1, zr_b_up (zr_vs_b ok (q - i)) (by omega)⟩) (fun q hq => ⟨hb q hq, Nat.le_trans (zr_rl_le _ i (i + 1) (some 12) q) (bd q hq)⟩) (fun d34 hd => ?_)
    exact hw (b25, b26, b27, b28, b29, b30, b31, b32, b33, d34) hd
theorem zr_cover {post : Int32 → St2 → Prop} {k x e n : Nat} {c : Int32} {y : Option Nat} (ok : zr_ok k c x y e) (hU : zr_U k c x y a14 a15 a16 a17 a18 a19 a20 a21 a22 a23) (hn : n ≤ 8)
    (H : ∀ b25 b26 b27 b28 b29 b30 b31 b32 b33 b34 : Nat → Int32, post (nI (zr_ro (zr_vs k c x y e a24) n n n)) (fh, fm, fp, nI k, nI e, nI e, nI n, a1, a2, a3, a4, a5, a6, a7, a8, a9, a10, a11, a12, a13, a14, a15, a16, a17, a18, a19, a20, a21, a22, a23, a24, b25, b26, b27, b28, b29, b30, b31, b32, b33, b34)) : wpX_cover post (fh, fm, fp, nI k, nI e, nI e, nI n, a1, a2, a3, a4, a5, a6, a7, a8, a9, a10, a11, a12, a13, a14, a15, a16, a17, a18, a19, a20, a21, a22, a23, a24, a25, a26, a27, a28, a29, a30, a31, a32, a33, a34) := by
  unfold wpX_cover
  dsimp only
  refine pk_loop (fun f j (s : Nat → Int32) => wX_cover_2 post fh fm fp (nI k) (nI e) (nI e) (nI n) f (nI j) a1 a2 a3 a4 a5 a6 a7 a8 a9 a10 a11 a12 a13 a14 a15 a16 a17 a18 a19 a20 a21 a22 a23 a24 a25 a26 a27 a28 a29 a30 a31 a32 a33 s) (fun j s => ∀ q, q < j → s q = nI (q * 12)) (n + 1) 0 a34 (by omega) (fun q hq => absurd hq (by omega)) ?_ ?_
  · intro f s h
    refine pk_lt n (n + 1) (fun _ => ?_) (fun z => absurd z (by omega))
    exact zr_c28 ok hU hn (fun q hq => h q (by omega)) H
  · intro f j s hj h hw
    have hcl : (nI j).toNatClampNeg = j := pk_cl j
    refine pk_lt n j (fun z => absurd z (by omega)) (fun _ => ⟨pk_in j 9 (by omega), nm_r (e' := upd s j (nI (j * 12))) ?_ (nm_r (nI_1 j) (hw _ (fun q hq => ?_)))⟩)
    · rw [hcl, show (12 : Int32) = nI 12 from rfl, pk_mul]
    · by_cases g : q = j
      · rw [g, pk_us]
      · rw [pk_un g]
        exact h q (by omega)
end
end
section
/-! ===== the law's chain of checks, as ifs ===== -/
def zr_in (x : Int32) : Int32 := if x < 0 then 0 else if 2 < x then 0 else 1
def zr_bt (x : Int32) : Int32 := if x = 0 then 0 else 1
def zr_lp (x6 x7 : Int32) : Int32 := if x6 = 0 then 0 else if x7 = 0 then 0 else 1
def zr_both (x0 x3 x4 x20 x21 : Int32) : Int32 := if x20 = 2 then (if x21 = 0 then 0 else if x3 = x0 then (if x4 = x0 then 1 else 0) else 0) else 0
def zr_head (x0 x3 x4 x6 x18 x19 : Int32) : Int32 := if x6 = 0 then 0 else if x18 = 0 then (if x19 = 0 then 0 else if x4 = x0 then 1 else 0) else if x3 = x0 then 1 else 0
def zr_far (x6 x21 x22 z : Int32) : Int32 := if x22 = 0 then (if z = 0 then (if x21 = 0 then (if x6 = 0 then 0 else -4) else 0) else 1) else 2
def zr_one (x1 x2 x6 x21 : Int32) : Int32 := if x21 = 0 then (if x6 = 0 then 12 else x1) else if 12 ≤ x1 + x2 then 12 else x1 + x2
def zr_ca (x x0 x18 o : Int32) : Int32 := if x18 = 0 then 0 else if x = x0 then o else 12
def zr_cost (x1 x2 x20 x22 : Int32) : Int32 := if 2 ≤ x20 then (if x22 = 0 then -4 else 2 * (x1 + x2)) else -1
/-- the checks that don't look at a cost -/
def zr_d1 (x6 x7 x8 x9 x10 x11 x12 x13 x18 x19 x20 x22 : Int32) : Prop :=
  x8 = (if x6 = 0 then -1 else 1) ∧ x9 = (if x7 = 0 then -1 else if x6 = 0 then -3 else 1) ∧ x10 = (if x6 = 0 then -3 else 0) ∧ x11 = (if x18 = 0 then -1 else 1) ∧ x12 = (if x19 = 0 then -1 else x20) ∧ x13 = (if x22 = 0 then 0 else 1)
section
variable {post : Int32 → St0 → Prop} {mc ms kc ks : Nat} {x0 x1 x2 x3 x4 x6 x7 x8 x9 x10 x11 x12 x13 x14 x15 x16 x17 x18 x19 x20 x21 x22 x24 x25 x26 x27 z0 z1 : Int32}
theorem zr_519 (h0 : z1 = z0) (h14 : x14 = x27) (h15 : x15 = x27) (h16 : x16 = x24) (h17 : x17 = x26) (H : post 1 ()) : wL_lawOf_519 post mc ms x14 x15 x16 x17 x24 x26 x27 z0 z1 kc ks :=
  br_t h0 (br_t h14 (br_t h15 (br_t h16 (br_t h17 H))))
theorem zr_504 (h0 : z1 = z0) (h13 : x13 = (if x22 = 0 then 0 else 1)) (h14 : x14 = x27) (h15 : x15 = x27) (h16 : x16 = x24) (h17 : x17 = x26) (H : post 1 ()) : wL_lawOf_504 post mc ms x13 x14 x15 x16 x17 x22 x24 x26 x27 z0 z1 kc ks :=
  br_t h0 (br_c (fun g => zr_519 (by rw [h13, if_pos g]) h14 h15 h16 h17 H) (fun g => zr_519 (by rw [h13, if_neg g]) h14 h15 h16 h17 H))
theorem zr_488 (h0 : z1 = z0) (h12 : x12 = (if x19 = 0 then -1 else x20)) (h13 : x13 = (if x22 = 0 then 0 else 1)) (h14 : x14 = x27) (h15 : x15 = x27) (h16 : x16 = x24) (h17 : x17 = x26) (H : post 1 ()) : wL_lawOf_488 post mc ms x12 x13 x14 x15 x16 x17 x19 x20 x22 x24 x26 x27 z0 z1 kc ks :=
  br_t h0 (br_c (fun g => zr_504 (by rw [h12, if_pos g]) h13 h14 h15 h16 h17 H) (fun g => zr_504 (by rw [h12, if_neg g]) h13 h14 h15 h16 h17 H))
theorem zr_473 (h0 : z1 = z0) (h11 : x11 = (if x18 = 0 then -1 else 1)) (h12 : x12 = (if x19 = 0 then -1 else x20)) (h13 : x13 = (if x22 = 0 then 0 else 1)) (h14 : x14 = x27) (h15 : x15 = x27) (h16 : x16 = x24) (h17 : x17 = x26) (H : post 1 ()) : wL_lawOf_473 post mc ms x11 x12 x13 x14 x15 x16 x17 x18 x19 x20 x22 x24 x26 x27 z0 z1 kc ks :=
  br_t h0 (br_c (fun g => zr_488 (by rw [h11, if_pos g]) h12 h13 h14 h15 h16 h17 H) (fun g => zr_488 (by rw [h11, if_neg g]) h12 h13 h14 h15 h16 h17 H))
theorem zr_457 (h0 : z1 = z0) (h10 : x10 = (if x6 = 0 then -3 else 0)) (h11 : x11 = (if x18 = 0 then -1 else 1)) (h12 : x12 = (if x19 = 0 then -1 else x20)) (h13 : x13 = (if x22 = 0 then 0 else 1)) (h14 : x14 = x27) (h15 : x15 = x27) (h16 : x16 = x24) (h17 : x17 = x26) (H : post 1 ()) : wL_lawOf_457 post mc ms x6 x10 x11 x12 x13 x14 x15 x16 x17 x18 x19 x20 x22 x24 x26 x27 z0 z1 kc ks :=
  br_t h0 (br_c (fun g => zr_473 (by rw [h10, if_pos g]) h11 h12 h13 h14 h15 h16 h17 H) (fun g => zr_473 (by rw [h10, if_neg g]) h11 h12 h13 h14 h15 h16 h17 H))
theorem zr_432 (h0 : z1 = z0) (h9 : x9 = (if x7 = 0 then -1 else if x6 = 0 then -3 else 1)) (h10 : x10 = (if x6 = 0 then -3 else 0)) (h11 : x11 = (if x18 = 0 then -1 else 1)) (h12 : x12 = (if x19 = 0 then -1 else x20)) (h13 : x13 = (if x22 = 0 then 0 else 1)) (h14 : x14 = x27) (h15 : x15 = x27) (h16 : x16 = x24) (h17 : x17 = x26) (H : post 1 ()) : wL_lawOf_432 post mc ms x6 x7 x9 x10 x11 x12 x13 x14 x15 x16 x17 x18 x19 x20 x22 x24 x26 x27 z0 z1 kc ks :=
  br_t h0 (br_c (fun g => zr_457 (by rw [h9, if_pos g]) h10 h11 h12 h13 h14 h15 h16 h17 H) (fun g => br_c (fun g2 => zr_457 (by rw [h9, if_neg g, if_pos g2]) h10 h11 h12 h13 h14 h15 h16 h17 H) (fun g2 => zr_457 (by rw [h9, if_neg g, if_neg g2]) h10 h11 h12 h13 h14 h15 h16 h17 H)))
theorem zr_418 (d : zr_d1 x6 x7 x8 x9 x10 x11 x12 x13 x18 x19 x20 x22) (h14 : x14 = z0) (h15 : x15 = z0) (h16 : x16 = x24) (h17 : x17 = x26) (H : post 1 ()) : wL_lawOf_418 post mc ms x6 x7 x8 x9 x10 x11 x12 x13 x14 x15 x16 x17 x18 x19 x20 x22 x24 x26 z0 kc ks :=
  br_c (fun g => zr_432 (by rw [d.1, if_pos g]) d.2.1 d.2.2.1 d.2.2.2.1 d.2.2.2.2.1 d.2.2.2.2.2 h14 h15 h16 h17 H) (fun g => zr_432 (by rw [d.1, if_neg g]) d.2.1 d.2.2.1 d.2.2.2.1 d.2.2.2.2.1 d.2.2.2.2.2 h14 h15 h16 h17 H)
theorem zr_390 (d : zr_d1 x6 x7 x8 x9 x10 x11 x12 x13 x18 x19 x20 x22) (h14 : x14 = zr_cost x1 x2 x20 x22) (h15 : x15 = zr_cost x1 x2 x20 x22) (h16 : x16 = x24) (h17 : x17 = z1 + z0) (H : post 1 ()) : wL_lawOf_390 post mc ms x1 x2 x6 x7 x8 x9 x10 x11 x12 x13 x14 x15 x16 x17 x18 x19 x20 x22 x24 z0 z1 kc ks := by
  unfold zr_cost at h14 h15
  refine nm_e (br_c (fun g => br_c (fun g2 => ?_) (fun g2 => ?_)) (fun g => ?_))
  · rw [if_pos g, if_pos g2] at h14 h15
    exact zr_418 d h14 h15 h16 h17 H
  · rw [if_pos g, if_neg g2] at h14 h15
    exact zr_418 d h14 h15 h16 h17 H
  · rw [if_neg g] at h14 h15
    exact zr_418 d h14 h15 h16 h17 H
theorem zr_368 (d : zr_d1 x6 x7 x8 x9 x10 x11 x12 x13 x18 x19 x20 x22) (h14 : x14 = zr_cost x1 x2 x20 x22) (h15 : x15 = zr_cost x1 x2 x20 x22) (h16 : x16 = x24) (h17 : x17 = z0 + zr_ca x4 x0 x19 x25) (H : post 1 ()) : wL_lawOf_368 post mc ms x0 x1 x2 x4 x6 x7 x8 x9 x10 x11 x12 x13 x14 x15 x16 x17 x18 x19 x20 x22 x24 x25 z0 kc ks := by
  unfold zr_ca at h17
  refine br_c (fun g => ?_) (fun g => br_c (fun g2 => ?_) (fun g2 => ?_))
  · rw [if_pos g] at h17
    exact zr_390 d h14 h15 h16 h17 H
  · rw [if_neg g, if_pos g2] at h17
    exact zr_390 d h14 h15 h16 h17 H
  · rw [if_neg g, if_neg g2] at h17
    exact zr_390 d h14 h15 h16 h17 H
theorem zr_345 (d : zr_d1 x6 x7 x8 x9 x10 x11 x12 x13 x18 x19 x20 x22) (h14 : x14 = zr_cost x1 x2 x20 x22) (h15 : x15 = zr_cost x1 x2 x20 x22) (h16 : x16 = x24) (h17 : x17 = zr_ca x3 x0 x18 z0 + zr_ca x4 x0 x19 z0) (H : post 1 ()) : wL_lawOf_345 post mc ms x0 x1 x2 x3 x4 x6 x7 x8 x9 x10 x11 x12 x13 x14 x15 x16 x17 x18 x19 x20 x22 x24 z0 kc ks := by
  refine br_c (fun g => ?_) (fun g => br_c (fun g2 => ?_) (fun g2 => ?_))
  · rw [show zr_ca x3 x0 x18 z0 = 0 from if_pos g] at h17
    exact zr_368 d h14 h15 h16 h17 H
  · rw [show zr_ca x3 x0 x18 z0 = z0 from (if_neg g).trans (if_pos g2)] at h17
    exact zr_368 d h14 h15 h16 h17 H
  · rw [show zr_ca x3 x0 x18 z0 = 12 from (if_neg g).trans (if_neg g2)] at h17
    exact zr_368 d h14 h15 h16 h17 H
theorem zr_329 (d : zr_d1 x6 x7 x8 x9 x10 x11 x12 x13 x18 x19 x20 x22) (h14 : x14 = zr_cost x1 x2 x20 x22) (h15 : x15 = zr_cost x1 x2 x20 x22) (h16 : x16 = x24) (o : Int32) (ho : o = (if x21 = 0 then (if x6 = 0 then 12 else x1) else 12)) (h17 : x17 = zr_ca x3 x0 x18 o + zr_ca x4 x0 x19 o) (H : post 1 ()) : wL_lawOf_329 post mc ms x0 x1 x2 x3 x4 x6 x7 x8 x9 x10 x11 x12 x13 x14 x15 x16 x17 x18 x19 x20 x21 x22 x24 kc ks := by
  refine br_c (fun g => br_c (fun g2 => ?_) (fun g2 => ?_)) (fun g => ?_)
  · rw [if_pos g, if_pos g2] at ho
    subst ho
    exact zr_345 d h14 h15 h16 h17 H
  · rw [if_pos g, if_neg g2] at ho
    subst ho
    exact zr_345 d h14 h15 h16 h17 H
  · rw [if_neg g] at ho
    subst ho
    exact zr_345 d h14 h15 h16 h17 H
theorem zr_308 (d : zr_d1 x6 x7 x8 x9 x10 x11 x12 x13 x18 x19 x20 x22) (h14 : x14 = zr_cost x1 x2 x20 x22) (h15 : x15 = zr_cost x1 x2 x20 x22) (h16 : x16 = z0) (o : Int32) (ho : o = zr_one x1 x2 x6 x21) (h17 : x17 = zr_ca x3 x0 x18 o + zr_ca x4 x0 x19 o) (H : post 1 ()) : wL_lawOf_308 post mc ms x0 x1 x2 x3 x4 x6 x7 x8 x9 x10 x11 x12 x13 x14 x15 x16 x17 x18 x19 x20 x21 x22 z0 kc ks := by
  unfold zr_one at ho
  refine br_c (fun g => ?_) (fun g => br_c (fun g2 => ?_) (fun g2 => ?_))
  · rw [if_pos g] at ho
    exact zr_329 d h14 h15 h16 o (by rw [if_pos g]; exact ho) h17 H
  · rw [if_neg g, if_pos g2] at ho
    exact zr_329 d h14 h15 h16 o (by rw [if_neg g]; exact ho) h17 H
  · rw [if_neg g, if_neg g2] at ho
    subst ho
    exact zr_345 d h14 h15 h16 h17 H
theorem zr_272 (d : zr_d1 x6 x7 x8 x9 x10 x11 x12 x13 x18 x19 x20 x22) (h14 : x14 = zr_cost x1 x2 x20 x22) (h15 : x15 = zr_cost x1 x2 x20 x22) (h16 : x16 = zr_far x6 x21 x22 z0) (o : Int32) (ho : o = zr_one x1 x2 x6 x21) (h17 : x17 = zr_ca x3 x0 x18 o + zr_ca x4 x0 x19 o) (H : post 1 ()) : wL_lawOf_272 post mc ms x0 x1 x2 x3 x4 x6 x7 x8 x9 x10 x11 x12 x13 x14 x15 x16 x17 x18 x19 x20 x21 x22 z0 kc ks := by
  unfold zr_far at h16
  refine br_c (fun g => br_c (fun g2 => br_c (fun g3 => br_c (fun g4 => ?_) (fun g4 => ?_)) (fun g3 => ?_)) (fun g2 => ?_)) (fun g => ?_)
  · rw [if_pos g, if_pos g2, if_pos g3, if_pos g4] at h16
    exact zr_308 d h14 h15 h16 o ho h17 H
  · rw [if_pos g, if_pos g2, if_pos g3, if_neg g4] at h16
    exact zr_308 d h14 h15 h16 o ho h17 H
  · rw [if_pos g, if_pos g2, if_neg g3] at h16
    exact zr_308 d h14 h15 h16 o ho h17 H
  · rw [if_pos g, if_neg g2] at h16
    exact zr_308 d h14 h15 h16 o ho h17 H
  · rw [if_neg g] at h16
    exact zr_308 d h14 h15 h16 o ho h17 H
theorem zr_236 (d : zr_d1 x6 x7 x8 x9 x10 x11 x12 x13 x18 x19 x20 z0) (h14 : x14 = zr_cost x1 x2 x20 z0) (h15 : x15 = zr_cost x1 x2 x20 z0) (w : Int32) (hw : w = zr_head x0 x3 x4 x6 x18 x19) (h16 : x16 = zr_far x6 x21 z0 w) (o : Int32) (ho : o = zr_one x1 x2 x6 x21) (h17 : x17 = zr_ca x3 x0 x18 o + zr_ca x4 x0 x19 o) (H : post 1 ()) : wL_lawOf_236 post mc ms x0 x1 x2 x3 x4 x6 x7 x8 x9 x10 x11 x12 x13 x14 x15 x16 x17 x18 x19 x20 x21 z0 kc ks := by
  unfold zr_head at hw
  refine br_c (fun g => ?_) (fun g => br_c (fun g2 => br_c (fun g3 => ?_) (fun g3 => br_c (fun g4 => ?_) (fun g4 => ?_))) (fun g2 => br_c (fun g3 => ?_) (fun g3 => ?_)))
  · rw [if_pos g] at hw
    subst hw
    exact zr_272 d h14 h15 h16 o ho h17 H
  · rw [if_neg g, if_pos g2, if_pos g3] at hw
    subst hw
    exact zr_272 d h14 h15 h16 o ho h17 H
  · rw [if_neg g, if_pos g2, if_neg g3, if_pos g4] at hw
    subst hw
    exact zr_272 d h14 h15 h16 o ho h17 H
  · rw [if_neg g, if_pos g2, if_neg g3, if_neg g4] at hw
    subst hw
    exact zr_272 d h14 h15 h16 o ho h17 H
  · rw [if_neg g, if_neg g2, if_pos g3] at hw
    subst hw
    exact zr_272 d h14 h15 h16 o ho h17 H
  · rw [if_neg g, if_neg g2, if_neg g3] at hw
    subst hw
    exact zr_272 d h14 h15 h16 o ho h17 H
/-- all that the law asks, given x20 (how many letters) and x21 (a loop) -/
def zr_due (x0 x1 x2 x3 x4 x6 x7 x8 x9 x10 x11 x12 x13 x14 x15 x16 x17 x18 x19 x20 x21 : Int32) : Prop :=
  ∃ b w o : Int32, b = zr_both x0 x3 x4 x20 x21 ∧ w = zr_head x0 x3 x4 x6 x18 x19 ∧ o = zr_one x1 x2 x6 x21 ∧ zr_d1 x6 x7 x8 x9 x10 x11 x12 x13 x18 x19 x20 b ∧ x14 = zr_cost x1 x2 x20 b ∧ x15 = zr_cost x1 x2 x20 b ∧ x16 = zr_far x6 x21 b w ∧ x17 = zr_ca x3 x0 x18 o + zr_ca x4 x0 x19 o
theorem zr_207 (h : zr_due x0 x1 x2 x3 x4 x6 x7 x8 x9 x10 x11 x12 x13 x14 x15 x16 x17 x18 x19 x20 z0) (H : post 1 ()) : wL_lawOf_207 post mc ms x0 x1 x2 x3 x4 x6 x7 x8 x9 x10 x11 x12 x13 x14 x15 x16 x17 x18 x19 x20 z0 kc ks := by
  obtain ⟨b, w, o, hb, hw, ho, d, h14, h15, h16, h17⟩ := h
  unfold zr_both at hb
  refine br_c (fun g => br_c (fun g2 => ?_) (fun g2 => br_c (fun g3 => br_c (fun g4 => ?_) (fun g4 => ?_)) (fun g3 => ?_))) (fun g => ?_)
  · rw [if_pos g, if_pos g2] at hb
    subst hb
    exact zr_236 d h14 h15 w hw h16 o ho h17 H
  · rw [if_pos g, if_neg g2, if_pos g3, if_pos g4] at hb
    subst hb
    exact zr_236 d h14 h15 w hw h16 o ho h17 H
  · rw [if_pos g, if_neg g2, if_pos g3, if_neg g4] at hb
    subst hb
    exact zr_236 d h14 h15 w hw h16 o ho h17 H
  · rw [if_pos g, if_neg g2, if_neg g3] at hb
    subst hb
    exact zr_236 d h14 h15 w hw h16 o ho h17 H
  · rw [if_neg g] at hb
    subst hb
    exact zr_236 d h14 h15 w hw h16 o ho h17 H
theorem zr_189 (h : zr_due x0 x1 x2 x3 x4 x6 x7 x8 x9 x10 x11 x12 x13 x14 x15 x16 x17 x18 x19 (z1 + z0) (zr_lp x6 x7)) (H : post 1 ()) : wL_lawOf_189 post mc ms x0 x1 x2 x3 x4 x6 x7 x8 x9 x10 x11 x12 x13 x14 x15 x16 x17 x18 x19 z0 z1 kc ks := by
  refine nm_e (br_c (fun g => ?_) (fun g => br_c (fun g2 => ?_) (fun g2 => ?_)))
  · rw [show zr_lp x6 x7 = 0 from if_pos g] at h
    exact zr_207 h H
  · rw [show zr_lp x6 x7 = 0 from (if_neg g).trans (if_pos g2)] at h
    exact zr_207 h H
  · rw [show zr_lp x6 x7 = 1 from (if_neg g).trans (if_neg g2)] at h
    exact zr_207 h H
theorem zr_179 (h : zr_due x0 x1 x2 x3 x4 x6 x7 x8 x9 x10 x11 x12 x13 x14 x15 x16 x17 x18 x19 (z0 + zr_bt x19) (zr_lp x6 x7)) (H : post 1 ()) : wL_lawOf_179 post mc ms x0 x1 x2 x3 x4 x6 x7 x8 x9 x10 x11 x12 x13 x14 x15 x16 x17 x18 x19 z0 kc ks := by
  refine br_c (fun g => ?_) (fun g => ?_)
  · rw [show zr_bt x19 = 0 from if_pos g] at h
    exact zr_189 h H
  · rw [show zr_bt x19 = 1 from if_neg g] at h
    exact zr_189 h H
theorem zr_167 (h : zr_due x0 x1 x2 x3 x4 x6 x7 x8 x9 x10 x11 x12 x13 x14 x15 x16 x17 x18 z0 (zr_bt x18 + zr_bt z0) (zr_lp x6 x7)) (H : post 1 ()) : wL_lawOf_167 post mc ms x0 x1 x2 x3 x4 x6 x7 x8 x9 x10 x11 x12 x13 x14 x15 x16 x17 x18 z0 kc ks := by
  refine br_c (fun g => ?_) (fun g => ?_)
  · rw [show zr_bt x18 = 0 from if_pos g] at h
    exact zr_179 h H
  · rw [show zr_bt x18 = 1 from if_neg g] at h
    exact zr_179 h H
theorem zr_149 (h : zr_due x0 x1 x2 x3 x4 x6 x7 x8 x9 x10 x11 x12 x13 x14 x15 x16 x17 z0 (zr_in x4) (zr_bt z0 + zr_bt (zr_in x4)) (zr_lp x6 x7)) (H : post 1 ()) : wL_lawOf_149 post mc ms x0 x1 x2 x3 x4 x6 x7 x8 x9 x10 x11 x12 x13 x14 x15 x16 x17 z0 kc ks := by
  refine br_c (fun g => ?_) (fun g => br_c (fun g2 => ?_) (fun g2 => ?_))
  · rw [show zr_in x4 = 0 from if_pos g] at h
    exact zr_167 h H
  · rw [show zr_in x4 = 0 from (if_neg g).trans (if_pos g2)] at h
    exact zr_167 h H
  · rw [show zr_in x4 = 1 from (if_neg g).trans (if_neg g2)] at h
    exact zr_167 h H
end
end
section
/-! ===== the plain law ===== -/
/-- what letter, loop and define have answered, and what is in use: k, x, y, e -/
def zr_D (x1 x2 x6 x7 s1 s2 s3 : Int32) (k x : Nat) (y : Option Nat) (e : Nat) : Prop :=
  (x6 = 0 ∧ s1 = -1 ∧ s2 = (if x7 = 0 then -1 else -3) ∧ s3 = -3 ∧ k = 0 ∧ e = 1 ∧ x = 0 ∧ y = none) ∨
  (x6 = 1 ∧ x7 = 0 ∧ s1 = 1 ∧ s2 = -1 ∧ s3 = 0 ∧ k = 1 ∧ e = 0 ∧ x1 = nI x ∧ x ≤ 9 ∧ y = none) ∨
  (x6 = 1 ∧ x7 = 1 ∧ s1 = 1 ∧ s2 = 1 ∧ s3 = 0 ∧ k = 1 ∧ e = 1 ∧ x1 + x2 = nI x ∧ x ≤ 18 ∧ y = some x)
/-- a window's cost against a skip -/
def zr_om : Option Nat → Nat
  | none => 12
  | some x => min 12 x
theorem zr_co0 (W : Nat → Nat → Option Nat) : zr_ro W 0 0 0 = 0 := rfl
theorem zr_co1 (W : Nat → Nat → Option Nat) : zr_ro W 1 1 1 = zr_om (W 0 1) := by
  show zr_rl (zr_rl (fun j => j * 12) 0 1 (some 12)) 0 1 (W 0 1) 1 = zr_om (W 0 1)
  cases W 0 1 with
  | none => rfl
  | some x =>
    simp [zr_rl, zr_om]
    (repeat' split) <;> omega
theorem zr_co2 (W : Nat → Nat → Option Nat) (h : W 0 2 = none ∨ ∃ x, W 0 2 = some (x + x) ∧ W 0 1 = some x ∧ W 1 1 = some x) : zr_ro W 2 2 2 = zr_om (W 0 1) + zr_om (W 1 1) := by
  show zr_rl (zr_rl (zr_rl (zr_rl (zr_rl (fun j => j * 12) 0 1 (some 12)) 0 1 (W 0 1)) 0 2 (W 0 2)) 1 2 (some 12)) 1 2 (W 1 1) 2 = zr_om (W 0 1) + zr_om (W 1 1)
  rcases h with g | ⟨x, g2, g1, g3⟩
  · rw [g]
    cases W 0 1 with
    | none =>
      cases W 1 1 with
      | none => rfl
      | some b =>
        simp [zr_rl, zr_om]
        (repeat' split) <;> omega
    | some a =>
      cases W 1 1 with
      | none =>
        simp [zr_rl, zr_om]
        (repeat' split) <;> omega
      | some b =>
        simp [zr_rl, zr_om]
        (repeat' split) <;> omega
  · rw [g2, g1, g3]
    simp [zr_rl, zr_om]
    (repeat' split) <;> omega
section
variable {x0 x1 x2 x3 x4 x6 x7 s1 s2 s3 t1 t2 : Int32} {k x n e : Nat} {y : Option Nat} {d : Nat → Int32}
theorem zr_in0 (h : x3 < 0 ∨ 2 < x3) : zr_in x3 = 0 := by
  unfold zr_in
  by_cases g : x3 < 0
  · rw [if_pos g]
  · rw [if_neg g]
    rcases h with z | z
    · exact absurd z g
    · rw [if_pos z]
theorem zr_in1 (h : ¬ x3 < 0) (h2 : ¬ 2 < x3) : zr_in x3 = 1 := by
  unfold zr_in
  rw [if_neg h, if_neg h2]
/-- the cost of one letter of the law, as a number -/
theorem zr_onD (hD : zr_D x1 x2 x6 x7 s1 s2 s3 k x y e) : zr_one x1 x2 x6 (zr_lp x6 x7) = nI (if k = 1 then min 12 x else 12) := by
  rcases hD with ⟨g6, e1, e2, e3, gk, ge, gx, gy⟩ | ⟨g6, g7, e1, e2, e3, gk, ge, ex, hx, gy⟩ | ⟨g6, g7, e1, e2, e3, gk, ge, ex, hx, gy⟩
  · rw [g6, gk]
    rfl
  · rw [g6, g7, gk, ex, if_pos rfl, show min 12 x = x by omega]
    rfl
  · rw [g6, g7, gk, if_pos rfl]
    show (if 12 ≤ x1 + x2 then 12 else x1 + x2) = nI (min 12 x)
    rw [ex]
    by_cases g : 12 ≤ x
    · have c1 : (12 : Int32) ≤ nI x := nI_le (a := 12) g (by omega)
      rw [if_pos c1, show min 12 x = 12 by omega]
      rfl
    · have c1 : ¬ (12 : Int32) ≤ nI x := nI_ge (a := x) (b := 12) (by omega) (by omega)
      rw [if_neg c1, show min 12 x = x by omega]
/-- a letter's cost in the law is the window's cost against a skip -/
theorem zr_caD {t : Int32} : zr_ca t x0 1 (nI (if k = 1 then min 12 x else 12)) = nI (zr_om (zr_v1 k x0 x t)) := by
  show (if t = x0 then nI (if k = 1 then min 12 x else 12) else 12) = _
  unfold zr_v1
  by_cases g : t = x0
  · by_cases gk : k = 1
    · rw [if_pos g, if_pos gk, if_pos ⟨gk, g.symm⟩]
      rfl
    · rw [if_pos g, if_neg gk, if_neg (fun z => gk z.1)]
      rfl
  · rw [if_neg g, if_neg (fun z => g z.2.symm)]
    rfl
theorem zr_ca0 {t o : Int32} : zr_ca t x0 0 o = 0 := rfl
/-- what doesn't hang on the text -/
theorem zr_sD (hD : zr_D x1 x2 x6 x7 s1 s2 s3 k x y e) : s1 = (if x6 = 0 then -1 else 1) ∧ s2 = (if x7 = 0 then -1 else if x6 = 0 then -3 else 1) ∧ s3 = (if x6 = 0 then -3 else 0) := by
  rcases hD with ⟨g6, e1, e2, e3, gk, ge, gx, gy⟩ | ⟨g6, g7, e1, e2, e3, gk, ge, ex, hx, gy⟩ | ⟨g6, g7, e1, e2, e3, gk, ge, ex, hx, gy⟩
  · subst g6 e1 e2 e3
    exact ⟨rfl, rfl, rfl⟩
  · subst g6 g7 e1 e2 e3
    exact ⟨rfl, rfl, rfl⟩
  · subst g6 g7 e1 e2 e3
    exact ⟨rfl, rfl, rfl⟩
theorem zr_v1_none {t : Int32} : zr_v1 k x0 x t = none ↔ ¬ (k = 1 ∧ x0 = t) := by
  unfold zr_v1
  by_cases g : k = 1 ∧ x0 = t
  · rw [if_pos g]
    exact ⟨fun z => absurd z (Option.some_ne_none _), fun z => absurd g z⟩
  · rw [if_neg g]
    exact ⟨fun _ => g, fun _ => rfl⟩
/-- the far place, no letter or one -/
theorem zr_farD0 (hD : zr_D x1 x2 x6 x7 s1 s2 s3 k x y e) : (if (if e = 1 then some 0 else none : Option Nat) = none then -4 else 0 : Int32) = zr_far x6 (zr_lp x6 x7) 0 0 := by
  rcases hD with ⟨g6, e1, e2, e3, gk, ge, gx, gy⟩ | ⟨g6, g7, e1, e2, e3, gk, ge, ex, hx, gy⟩ | ⟨g6, g7, e1, e2, e3, gk, ge, ex, hx, gy⟩
  · rw [g6, ge]
    rfl
  · rw [g6, g7, ge]
    rfl
  · rw [g6, g7, ge]
    rfl
theorem zr_hd1 {t : Int32} (hD : zr_D x1 x2 x6 x7 s1 s2 s3 k x y e) : (if x6 = 0 then 0 else if t = x0 then 1 else 0 : Int32) = if zr_v1 k x0 x t = none then 0 else 1 := by
  have hk : ¬ x6 = 0 ↔ k = 1 := by
    rcases hD with ⟨g6, e1, e2, e3, gk, ge, gx, gy⟩ | ⟨g6, g7, e1, e2, e3, gk, ge, ex, hx, gy⟩ | ⟨g6, g7, e1, e2, e3, gk, ge, ex, hx, gy⟩
    · rw [g6, gk]
      decide
    · rw [g6, gk]
      decide
    · rw [g6, gk]
      decide
  by_cases g : x6 = 0
  · rw [if_pos g, if_pos (zr_v1_none.mpr (fun z => (hk.mpr z.1) g))]
  · rw [if_neg g]
    by_cases gt : t = x0
    · rw [if_pos gt, if_neg (fun z => (zr_v1_none.mp z) ⟨hk.mp g, gt.symm⟩)]
    · rw [if_neg gt, if_pos (zr_v1_none.mpr (fun z => gt z.2.symm))]
theorem zr_far1 {v : Option Nat} (hD : zr_D x1 x2 x6 x7 s1 s2 s3 k x y e) {w : Int32} (hw : w = if v = none then 0 else 1) : (if v = none then (if (if e = 1 then some 0 else none : Option Nat) = none then -4 else 0) else 1 : Int32) = zr_far x6 (zr_lp x6 x7) 0 w := by
  by_cases g : v = none
  · rw [if_pos g] at hw
    rw [if_pos g, hw]
    exact zr_farD0 hD
  · rw [if_neg g] at hw
    rw [if_neg g, hw]
    rfl
theorem zr_p00 (hD : zr_D x1 x2 x6 x7 s1 s2 s3 k x y e) (h3 : zr_in x3 = 0) (h4 : zr_in x4 = 0) :
    zr_due x0 x1 x2 x3 x4 x6 x7 s1 s2 s3 (-1) (-1) 0 (-1) (-1) (zr_lo (zr_vs k x0 x y e d 0) 0) (nI (zr_ro (zr_vs k x0 x y e d) 0 0 0)) (zr_in x3) (zr_in x4) (zr_bt (zr_in x3) + zr_bt (zr_in x4)) (zr_lp x6 x7) := by
  rw [h3, h4]
  obtain ⟨hs1, hs2, hs3⟩ := zr_sD hD
  have hh : zr_head x0 x3 x4 x6 0 0 = 0 := by
    unfold zr_head
    by_cases g : x6 = 0
    · rw [if_pos g]
    · rw [if_neg g]
      rfl
  exact ⟨0, 0, _, rfl, hh.symm, rfl, ⟨hs1, hs2, hs3, rfl, rfl, rfl⟩, rfl, rfl, zr_farD0 hD, rfl⟩
theorem zr_p10 (hD : zr_D x1 x2 x6 x7 s1 s2 s3 k x y e) (h3 : zr_in x3 = 1) (h4 : zr_in x4 = 0) (hd : d 0 = x3) :
    zr_due x0 x1 x2 x3 x4 x6 x7 s1 s2 s3 1 (-1) 0 (-1) (-1) (zr_lo (zr_vs k x0 x y e d 0) 1) (nI (zr_ro (zr_vs k x0 x y e d) 1 1 1)) (zr_in x3) (zr_in x4) (zr_bt (zr_in x3) + zr_bt (zr_in x4)) (zr_lp x6 x7) := by
  rw [h3, h4]
  obtain ⟨hs1, hs2, hs3⟩ := zr_sD hD
  have hv : zr_vs k x0 x y e d 0 1 = zr_v1 k x0 x x3 := by
    rw [← hd]
    rfl
  refine ⟨0, _, _, rfl, rfl, rfl, ⟨hs1, hs2, hs3, rfl, rfl, rfl⟩, rfl, rfl, ?_, ?_⟩
  · refine zr_far1 (v := zr_vs k x0 x y e d 0 1) hD ?_
    rw [hv, ← zr_hd1 hD]
    rfl
  · rw [zr_co1, zr_onD hD, zr_ca0, zr_caD, hv]
    exact (nI_add _ 0).symm
theorem zr_p01 (hD : zr_D x1 x2 x6 x7 s1 s2 s3 k x y e) (h3 : zr_in x3 = 0) (h4 : zr_in x4 = 1) (hd : d 0 = x4) :
    zr_due x0 x1 x2 x3 x4 x6 x7 s1 s2 s3 (-1) 1 0 (-1) (-1) (zr_lo (zr_vs k x0 x y e d 0) 1) (nI (zr_ro (zr_vs k x0 x y e d) 1 1 1)) (zr_in x3) (zr_in x4) (zr_bt (zr_in x3) + zr_bt (zr_in x4)) (zr_lp x6 x7) := by
  rw [h3, h4]
  obtain ⟨hs1, hs2, hs3⟩ := zr_sD hD
  have hv : zr_vs k x0 x y e d 0 1 = zr_v1 k x0 x x4 := by
    rw [← hd]
    rfl
  refine ⟨0, _, _, rfl, rfl, rfl, ⟨hs1, hs2, hs3, rfl, rfl, rfl⟩, rfl, rfl, ?_, ?_⟩
  · refine zr_far1 (v := zr_vs k x0 x y e d 0 1) hD ?_
    rw [hv, ← zr_hd1 hD]
    rfl
  · rw [zr_co1, zr_onD hD, zr_ca0, zr_caD, hv]
    exact ((nI_add 0 _).trans (by rw [Nat.zero_add])).symm
/-- two letters: the second window and the law's 'both' -/
theorem zr_v2D (hD : zr_D x1 x2 x6 x7 s1 s2 s3 k x y e) :
    (zr_both x0 x3 x4 2 (zr_lp x6 x7) = 1 ∧ x1 + x2 = nI x ∧ x ≤ 18 ∧ zr_v1 k x0 x x3 = some x ∧ zr_v1 k x0 x x4 = some x ∧ zr_v2 k x0 y (zr_v1 k x0 x x3) x4 = some (x + x)) ∨
    (zr_both x0 x3 x4 2 (zr_lp x6 x7) = 0 ∧ zr_v2 k x0 y (zr_v1 k x0 x x3) x4 = none) := by
  rcases hD with ⟨g6, e1, e2, e3, gk, ge, gx, gy⟩ | ⟨g6, g7, e1, e2, e3, gk, ge, ex, hx, gy⟩ | ⟨g6, g7, e1, e2, e3, gk, ge, ex, hx, gy⟩
  · refine Or.inr ⟨by rw [g6]; rfl, ?_⟩
    rw [gk]
    rfl
  · refine Or.inr ⟨by rw [g6, g7]; rfl, ?_⟩
    rw [gy]
    unfold zr_v2
    by_cases g : k = 1 ∧ x0 = x4
    · rw [if_pos g]
      cases zr_v1 k x0 x x3 <;> rfl
    · rw [if_neg g]
  · rw [g6, g7, gy]
    show ((if x3 = x0 then (if x4 = x0 then 1 else 0) else 0 : Int32) = 1 ∧ _) ∨ ((if x3 = x0 then (if x4 = x0 then 1 else 0) else 0 : Int32) = 0 ∧ _)
    unfold zr_v2 zr_v1
    by_cases g3 : x3 = x0
    · by_cases g4 : x4 = x0
      · rw [if_pos g3, if_pos g4, if_pos ⟨gk, g3.symm⟩, if_pos ⟨gk, g4.symm⟩, if_pos ⟨gk, g4.symm⟩]
        exact Or.inl ⟨rfl, ex, hx, rfl, rfl, rfl⟩
      · rw [if_pos g3, if_neg g4, if_neg (c := k = 1 ∧ x0 = x4) (fun z => g4 z.2.symm), if_neg (c := k = 1 ∧ x0 = x4) (fun z => g4 z.2.symm)]
        exact Or.inr ⟨rfl, rfl⟩
    · rw [if_neg g3, if_neg (c := k = 1 ∧ x0 = x3) (fun z => g3 z.2.symm)]
      refine Or.inr ⟨rfl, ?_⟩
      by_cases g4 : k = 1 ∧ x0 = x4
      · rw [if_pos g4]
        rfl
      · rw [if_neg g4]
theorem zr_p11 (hD : zr_D x1 x2 x6 x7 s1 s2 s3 k x y e) (h3 : zr_in x3 = 1) (h4 : zr_in x4 = 1) (hd : d 0 = x3) (hd1 : d 1 = x4) :
    zr_due x0 x1 x2 x3 x4 x6 x7 s1 s2 s3 1 2 (zr_w (zr_vs k x0 x y e d 0 2)) (zr_q (zr_vs k x0 x y e d 0 2)) (zr_q (zr_vs k x0 x y e d 0 2)) (zr_lo (zr_vs k x0 x y e d 0) 2) (nI (zr_ro (zr_vs k x0 x y e d) 2 2 2)) (zr_in x3) (zr_in x4) (zr_bt (zr_in x3) + zr_bt (zr_in x4)) (zr_lp x6 x7) := by
  rw [h3, h4]
  obtain ⟨hs1, hs2, hs3⟩ := zr_sD hD
  have hv1 : zr_vs k x0 x y e d 0 1 = zr_v1 k x0 x x3 := by
    rw [← hd]
    rfl
  have hz1 : zr_vs k x0 x y e d 1 1 = zr_v1 k x0 x x4 := by
    rw [← hd1]
    rfl
  have hv2 : zr_vs k x0 x y e d 0 2 = zr_v2 k x0 y (zr_v1 k x0 x x3) x4 := by
    rw [← hv1, ← hd1]
    rfl
  have hn : zr_bt 1 + zr_bt 1 = 2 := by decide
  have hcov : zr_ro (zr_vs k x0 x y e d) 2 2 2 = zr_om (zr_v1 k x0 x x3) + zr_om (zr_v1 k x0 x x4) := by
    rw [zr_co2, hv1, hz1]
    rw [hv2, hv1, hz1]
    rcases zr_v2D (x0 := x0) (x3 := x3) (x4 := x4) hD with ⟨_, _, _, g1, g2, g3⟩ | ⟨_, g⟩
    · exact Or.inr ⟨x, g3, g1, g2⟩
    · exact Or.inl g
  have hct : nI (zr_ro (zr_vs k x0 x y e d) 2 2 2) = zr_ca x3 x0 1 (zr_one x1 x2 x6 (zr_lp x6 x7)) + zr_ca x4 x0 1 (zr_one x1 x2 x6 (zr_lp x6 x7)) := by
    rw [hcov, zr_onD hD, zr_caD, zr_caD, nI_add]
  rw [hn, hv2]
  rcases zr_v2D (x0 := x0) (x3 := x3) (x4 := x4) hD with ⟨gb, ex, hx, g1, g2, g3⟩ | ⟨gb, g⟩
  · refine ⟨1, _, _, gb.symm, rfl, rfl, ⟨hs1, hs2, hs3, rfl, rfl, ?_⟩, ?_, ?_, ?_, hct⟩
    · rw [g3]
      rfl
    · rw [g3]
      show nI (x + x) = 2 * (x1 + x2)
      rw [ex, show (2 : Int32) = nI 2 from rfl, pk_mul, show 2 * x = x + x by omega]
    · rw [g3]
      show nI (x + x) = 2 * (x1 + x2)
      rw [ex, show (2 : Int32) = nI 2 from rfl, pk_mul, show 2 * x = x + x by omega]
    · show (if zr_vs k x0 x y e d 0 2 = none then zr_lo (zr_vs k x0 x y e d 0) 1 else 2) = 2
      rw [hv2, g3]
      rfl
  · refine ⟨0, _, _, gb.symm, rfl, rfl, ⟨hs1, hs2, hs3, rfl, rfl, ?_⟩, ?_, ?_, ?_, hct⟩
    · rw [g]
      rfl
    · rw [g]
      rfl
    · rw [g]
      rfl
    · have e2 : zr_lo (zr_vs k x0 x y e d 0) 2 = zr_lo (zr_vs k x0 x y e d 0) 1 := if_pos (by rw [hv2]; exact g)
      rw [e2]
      refine zr_far1 (v := zr_vs k x0 x y e d 0 1) hD ?_
      rw [hv1, ← zr_hd1 hD]
      rfl
/-- all four cases of the two letters typed -/
theorem zr_plain {n1 : Nat} {a b : Nat → Int32} (hD : zr_D x1 x2 x6 x7 s1 s2 s3 k x y e) (h1 : zr_ty x3 0 a t1 n1 b) (h2 : zr_ty x4 n1 b t2 n d) :
    zr_due x0 x1 x2 x3 x4 x6 x7 s1 s2 s3 t1 t2 (if n < 2 then 0 else zr_w (zr_vs k x0 x y e d 0 2)) (if n < 2 then -1 else zr_q (zr_vs k x0 x y e d 0 2)) (if n < 2 then -1 else zr_q (zr_vs k x0 x y e d 0 2)) (zr_lo (zr_vs k x0 x y e d 0) n) (nI (zr_ro (zr_vs k x0 x y e d) n n n)) (zr_in x3) (zr_in x4) (zr_bt (zr_in x3) + zr_bt (zr_in x4)) (zr_lp x6 x7) := by
  rcases h1 with ⟨p3, q3, r3, m3, w3⟩ | ⟨p3, r3, m3, w3⟩
  · rcases h2 with ⟨p4, q4, r4, m4, w4⟩ | ⟨p4, r4, m4, w4⟩
    · subst r3 m3 w3 r4 m4 w4
      exact zr_p11 hD (zr_in1 p3 q3) (zr_in1 p4 q4) rfl rfl
    · subst r3 m3 w3 r4 m4 w4
      exact zr_p10 hD (zr_in1 p3 q3) (zr_in0 p4) rfl
  · rcases h2 with ⟨p4, q4, r4, m4, w4⟩ | ⟨p4, r4, m4, w4⟩
    · subst r3 m3 w3 r4 m4 w4
      exact zr_p01 hD (zr_in0 p3) (zr_in1 p4 q4) rfl
    · subst r3 m3 w3 r4 m4 w4
      exact zr_p00 hD (zr_in0 p3) (zr_in0 p4)
end
end
section
section
variable {fh fm fp fc fe fw fl : Int32} {a1 a2 a3 a4 a5 a6 a7 a8 a9 a10 a11 a12 a13 a14 a15 a16 a17 a18 a19 a20 a21 a22 a23 a24 a25 a26 a27 a28 a29 a30 a31 a32 a33 a34 : Nat → Int32}
/-- letter has answered r -/
def zr_pL (x0 x1 x6 r fh fm fp : Int32) (a1 a2 a3 a4 a5 a6 a7 a8 a9 a10 a11 a12 a13 : Nat → Int32) : Prop :=
  (x6 = 1 ∧ r = 1 ∧ fh = 1 ∧ fm = 1 ∧ fp = 1 ∧ ∃ w : Nat, w ≤ 9 ∧ x1 = nI w ∧ ¬ x0 = 3 ∧ zr_E x0 w none 0 a1 a2 a3 a4 a5 a6 a7 a8 a9 a10 a11 a12 a13) ∨ (x6 = 0 ∧ r = -1 ∧ fh = 0 ∧ fm = 0 ∧ fp = 0)
/-- x6: is the letter taken? -/
def zr_hq (x0 x1 x6 : Int32) : Prop := (x6 = 1 ∧ ∃ c w : Nat, c ≤ 2 ∧ w ≤ 9 ∧ x0 = nI c ∧ x1 = nI w) ∨ (x6 = 0 ∧ (x0 < 0 ∨ 2 < x0 ∨ x1 < 0 ∨ 9 < x1))
def zr_hg (x2 x7 : Int32) : Prop := (x7 = 1 ∧ ∃ p : Nat, p ≤ 9 ∧ x2 = nI p) ∨ (x7 = 0 ∧ (x2 < 0 ∨ 9 < x2))
theorem zr_letter {post : Int32 → St2 → Prop} {x0 x1 x6 : Int32} (hq : zr_hq x0 x1 x6)
    (H : ∀ (r gh gm gp : Int32) (b1 b2 b3 b4 b5 b6 b7 b8 b9 b10 b11 b12 b13 : Nat → Int32), zr_pL x0 x1 x6 r gh gm gp b1 b2 b3 b4 b5 b6 b7 b8 b9 b10 b11 b12 b13 → post r (gh, gm, gp, fc, fe, fw, fl, b1, b2, b3, b4, b5, b6, b7, b8, b9, b10, b11, b12, b13, a14, a15, a16, a17, a18, a19, a20, a21, a22, a23, a24, a25, a26, a27, a28, a29, a30, a31, a32, a33, a34)) : wpX_letter post (0, 0, 0, fc, fe, fw, fl, a1, a2, a3, a4, a5, a6, a7, a8, a9, a10, a11, a12, a13, a14, a15, a16, a17, a18, a19, a20, a21, a22, a23, a24, a25, a26, a27, a28, a29, a30, a31, a32, a33, a34) x0 x1 := by
  rcases hq with ⟨g, c, w, hc, hw, e0, e1⟩ | ⟨g, h⟩
  · subst e0 e1
    refine zr_letter_ok hc hw (fun b1 b2 b3 b4 b5 b6 b7 b8 b9 b10 b11 b12 b13 hE => H 1 1 1 1 b1 b2 b3 b4 b5 b6 b7 b8 b9 b10 b11 b12 b13 (Or.inl ⟨g, rfl, rfl, rfl, rfl, w, hw, rfl, ?_, hE⟩))
    exact fun z => absurd ((nI_eq (a := c) (b := 3) (by omega) (by omega)).mp z) (by omega)
  · exact zr_letter_no h (H (-1) 0 0 0 a1 a2 a3 a4 a5 a6 a7 a8 a9 a10 a11 a12 a13 (Or.inr ⟨g, rfl, rfl, rfl, rfl⟩))
/-- loop has answered s2 -/
def zr_pM (x0 x1 x2 x6 x7 s1 s2 fh fp : Int32) (a1 a2 a3 a4 a5 a6 a7 a8 a9 a10 a11 a12 a13 : Nat → Int32) : Prop :=
  (x6 = 1 ∧ s1 = 1 ∧ fh = 1 ∧ fp = 1 ∧ ¬ x0 = 3 ∧ ∃ (x : Nat) (y : Option Nat) (e : Nat), zr_E x0 x y (nI e) a1 a2 a3 a4 a5 a6 a7 a8 a9 a10 a11 a12 a13 ∧ ((x7 = 0 ∧ s2 = -1 ∧ e = 0 ∧ x1 = nI x ∧ x ≤ 9 ∧ y = none) ∨ (x7 = 1 ∧ s2 = 1 ∧ e = 1 ∧ x1 + x2 = nI x ∧ x ≤ 18 ∧ y = some x))) ∨
  (x6 = 0 ∧ s1 = -1 ∧ fh = 0 ∧ s2 = (if x7 = 0 then -1 else -3))
theorem zr_loop {post : Int32 → St2 → Prop} {x0 x1 x2 x6 x7 s1 : Int32} (hL : zr_pL x0 x1 x6 s1 fh fm fp a1 a2 a3 a4 a5 a6 a7 a8 a9 a10 a11 a12 a13) (hg : zr_hg x2 x7)
    (H : ∀ (s2 gm : Int32) (b1 b2 b3 b4 b5 b6 b7 b8 b9 b10 b11 b12 b13 : Nat → Int32), zr_pM x0 x1 x2 x6 x7 s1 s2 fh fp b1 b2 b3 b4 b5 b6 b7 b8 b9 b10 b11 b12 b13 → post s2 (fh, gm, fp, fc, fe, fw, fl, b1, b2, b3, b4, b5, b6, b7, b8, b9, b10, b11, b12, b13, a14, a15, a16, a17, a18, a19, a20, a21, a22, a23, a24, a25, a26, a27, a28, a29, a30, a31, a32, a33, a34)) : wpX_loop post (fh, fm, fp, fc, fe, fw, fl, a1, a2, a3, a4, a5, a6, a7, a8, a9, a10, a11, a12, a13, a14, a15, a16, a17, a18, a19, a20, a21, a22, a23, a24, a25, a26, a27, a28, a29, a30, a31, a32, a33, a34) x2 := by
  rcases hL with ⟨g6, e1, eh, em, ep, w, hw, ew, h3, hE⟩ | ⟨g6, e1, eh, em, ep⟩
  · subst eh em ep
    rcases hg with ⟨g7, p, hp, e2⟩ | ⟨g7, h⟩
    · subst e2
      refine zr_loop_ok hp hw hE (fun b1 b2 b3 b4 b5 b6 b7 b8 b9 b10 b11 b12 b13 hE2 => H 1 2 b1 b2 b3 b4 b5 b6 b7 b8 b9 b10 b11 b12 b13 (Or.inl ⟨g6, e1, rfl, rfl, h3, w + p, some (w + p), 1, hE2, Or.inr ⟨g7, rfl, rfl, ?_, by omega, rfl⟩⟩))
      rw [ew]
      exact nI_add w p
    · exact zr_loop_no h (H (-1) 1 a1 a2 a3 a4 a5 a6 a7 a8 a9 a10 a11 a12 a13 (Or.inl ⟨g6, e1, rfl, rfl, h3, w, none, 0, hE, Or.inl ⟨g7, rfl, rfl, ew, hw, rfl⟩⟩))
  · subst eh em ep
    rcases hg with ⟨g7, p, hp, e2⟩ | ⟨g7, h⟩
    · subst e2
      refine zr_loop_low hp (H (-3) 0 a1 a2 a3 a4 a5 a6 a7 a8 a9 a10 a11 a12 a13 (Or.inr ⟨g6, e1, rfl, ?_⟩))
      rw [g7]
      rfl
    · refine zr_loop_no h (H (-1) 0 a1 a2 a3 a4 a5 a6 a7 a8 a9 a10 a11 a12 a13 (Or.inr ⟨g6, e1, rfl, ?_⟩))
      rw [g7]
      rfl
theorem zr_define {post : Int32 → St2 → Prop} {x0 x1 x2 x6 x7 s1 s2 : Int32} (hM : zr_pM x0 x1 x2 x6 x7 s1 s2 fh fp a1 a2 a3 a4 a5 a6 a7 a8 a9 a10 a11 a12 a13)
    (H : ∀ (s3 gh gm gp : Int32) (k x : Nat) (y : Option Nat) (e : Nat) (b14 b15 b16 b17 b18 b19 b20 b21 b22 b23 : Nat → Int32), zr_D x1 x2 x6 x7 s1 s2 s3 k x y e → zr_ok k x0 x y e → zr_U k x0 x y b14 b15 b16 b17 b18 b19 b20 b21 b22 b23 → post s3 (gh, gm, gp, nI k, nI e, nI e, fl, a1, a2, a3, a4, a5, a6, a7, a8, a9, a10, a11, a12, a13, b14, b15, b16, b17, b18, b19, b20, b21, b22, b23, a24, a25, a26, a27, a28, a29, a30, a31, a32, a33, a34)) :
    wpX_define post (fh, fm, fp, 0, 1, 1, fl, a1, a2, a3, a4, a5, a6, a7, a8, a9, a10, a11, a12, a13, a14, a15, a16, a17, a18, a19, a20, a21, a22, a23, a24, a25, a26, a27, a28, a29, a30, a31, a32, a33, a34) := by
  rcases hM with ⟨g6, e1, eh, ep, h3, x, y, e, hE, hc⟩ | ⟨g6, e1, eh, e2⟩
  · subst eh ep
    rcases hc with ⟨g7, e2, ee, ex, hx, ey⟩ | ⟨g7, e2, ee, ex, hx, ey⟩
    · refine zr_define_ok (Or.inl ee) hE (fun b14 b15 b16 b17 b18 b19 b20 b21 b22 b23 hU => H 0 0 0 0 1 x y e b14 b15 b16 b17 b18 b19 b20 b21 b22 b23 ?_ ?_ hU)
      · exact Or.inr (Or.inl ⟨g6, g7, e1, e2, rfl, rfl, ee, ex, hx, ey⟩)
      · exact ⟨Or.inr rfl, Or.inl ee, by omega, by rw [ey]; exact zr_b_none, fun _ => h3⟩
    · refine zr_define_ok (Or.inr ee) hE (fun b14 b15 b16 b17 b18 b19 b20 b21 b22 b23 hU => H 0 0 0 0 1 x y e b14 b15 b16 b17 b18 b19 b20 b21 b22 b23 ?_ ?_ hU)
      · exact Or.inr (Or.inr ⟨g6, g7, e1, e2, rfl, rfl, ee, ex, hx, ey⟩)
      · exact ⟨Or.inr rfl, Or.inr ee, hx, by rw [ey]; exact zr_b_some hx, fun _ => h3⟩
  · subst eh
    refine zr_define_low (H (-3) 0 fm fp 0 0 none 1 a14 a15 a16 a17 a18 a19 a20 a21 a22 a23 ?_ ?_ (fun z => absurd z (by decide)))
    · exact Or.inl ⟨g6, e1, e2, rfl, rfl, rfl, rfl, rfl⟩
    · exact ⟨Or.inl rfl, Or.inr rfl, by omega, zr_b_none, fun z => absurd z (by decide)⟩
end
end
section
section
variable {fh fm fp fc fe fw fl : Int32} {a1 a2 a3 a4 a5 a6 a7 a8 a9 a10 a11 a12 a13 a14 a15 a16 a17 a18 a19 a20 a21 a22 a23 a24 a25 a26 a27 a28 a29 a30 a31 a32 a33 a34 : Nat → Int32}
variable {post : Int32 → St0 → Prop} {mc ms kc ks : Nat} {x0 x1 x2 x3 x4 x6 x7 : Int32}
theorem zr_50 (hq : zr_hq x0 x1 x6) (hg : zr_hg x2 x7) (H : post 1 ()) : wL_lawOf_50 post mc ms x0 x1 x2 x3 x4 x6 x7 kc ks 0 0 0 0 1 1 0 a1 a2 a3 a4 a5 a6 a7 a8 a9 a10 a11 a12 a13 a14 a15 a16 a17 a18 a19 a20 a21 a22 a23 a24 a25 a26 a27 a28 a29 a30 a31 a32 a33 a34 := by
  unfold wL_lawOf_50
  refine zr_letter hq (fun s1 gh gm gp b1 b2 b3 b4 b5 b6 b7 b8 b9 b10 b11 b12 b13 hL => ?_)
  refine zr_loop hL hg (fun s2 gm' d1 d2 d3 d4 d5 d6 d7 d8 d9 d10 d11 d12 d13 hM => ?_)
  refine zr_define hM (fun s3 kh km kp k x y e b14 b15 b16 b17 b18 b19 b20 b21 b22 b23 hD ok hU => ?_)
  refine zr_type (n := 0) (by omega) (fun t1 n1 b24 h1 => ?_)
  have hn1 : n1 ≤ 1 := by
    rcases h1 with h | h
    · have := h.2.2.2.1
      omega
    · have := h.2.2.1
      omega
  refine zr_type (n := n1) (by omega) (fun t2 n d24 h2 => ?_)
  have hn : n ≤ 8 := by
    rcases h2 with h | h
    · have := h.2.2.2.1
      omega
    · have := h.2.2.1
      omega
  refine zr_ways ok hU hn (fun b25 b26 b27 b28 b29 b30 b31 b32 b33 => ?_)
  refine zr_least ok hU hn (fun c25 c26 c27 c28 c29 c30 c31 c32 c33 => ?_)
  refine zr_most ok hU hn (fun e25 e26 e27 e28 e29 e30 e31 e32 e33 => ?_)
  refine zr_longest ok hU hn (fun g25 g26 g27 g28 g29 g30 g31 g32 g33 => ?_)
  refine zr_cover ok hU hn (fun h25 h26 h27 h28 h29 h30 h31 h32 h33 h34 => ?_)
  have h := zr_plain (x0 := x0) hD h1 h2
  refine br_c (fun g => ?_) (fun g => br_c (fun g2 => ?_) (fun g2 => ?_))
  · rw [show zr_in x3 = 0 from if_pos g] at h
    exact zr_149 h H
  · rw [show zr_in x3 = 0 from (if_neg g).trans (if_pos g2)] at h
    exact zr_149 h H
  · rw [show zr_in x3 = 1 from (if_neg g).trans (if_neg g2)] at h
    exact zr_149 h H
theorem zr_33 (hq : zr_hq x0 x1 x6) (H : post 1 ()) : wL_lawOf_33 post mc ms x0 x1 x2 x3 x4 x6 kc ks 0 0 0 0 1 1 0 a1 a2 a3 a4 a5 a6 a7 a8 a9 a10 a11 a12 a13 a14 a15 a16 a17 a18 a19 a20 a21 a22 a23 a24 a25 a26 a27 a28 a29 a30 a31 a32 a33 a34 := by
  unfold wL_lawOf_33
  refine br_c (fun g => ?_) (fun g => br_c (fun g2 => ?_) (fun g2 => ?_))
  · exact zr_50 hq (Or.inr ⟨rfl, Or.inl g⟩) H
  · exact zr_50 hq (Or.inr ⟨rfl, Or.inr g2⟩) H
  · obtain ⟨p, hp, e⟩ := nI_of2 (M := 9) (n := 9) (by decide) g (Int32.not_lt.mp g2)
    exact zr_50 hq (Or.inl ⟨rfl, p, hp, e⟩) H
end
theorem zr_lawOf {post : Int32 → St0 → Prop} {x0 x1 x2 x3 x4 : Int32} (H : post 1 ()) : wpL_lawOf post 35 910 () x0 x1 x2 x3 x4 := by
  unfold wpL_lawOf
  refine ⟨by decide, by decide, 34, 869, by decide, by decide, ?_⟩
  unfold wpX_init
  dsimp only
  refine ⟨by decide, by decide, by decide, by decide, by decide, by decide, by decide, by decide, by decide, by decide, by decide, by decide, by decide, by decide, by decide, by decide, by decide, by decide, by decide, by decide, by decide, by decide, by decide, by decide, by decide, by decide, by decide, by decide, by decide, by decide, by decide, by decide, by decide, by decide, by decide, by decide, by decide, by decide, by decide, by decide, by decide, by decide, by decide, by decide, by decide, by decide, by decide, by decide, by decide, by decide, by decide, by decide, by decide, by decide, by decide, by decide, by decide, by decide, by decide, by decide, by decide, by decide, by decide, by decide, by decide, by decide, by decide, by decide, ?_⟩
  refine br_c (fun g => ?_) (fun g => br_c (fun g2 => ?_) (fun g2 => br_c (fun g3 => ?_) (fun g3 => br_c (fun g4 => ?_) (fun g4 => ?_))))
  · exact zr_33 (Or.inr ⟨rfl, Or.inl g⟩) H
  · exact zr_33 (Or.inr ⟨rfl, Or.inr (Or.inl g2)⟩) H
  · exact zr_33 (Or.inr ⟨rfl, Or.inr (Or.inr (Or.inl g3))⟩) H
  · exact zr_33 (Or.inr ⟨rfl, Or.inr (Or.inr (Or.inr g4))⟩) H
  · obtain ⟨c, hc, e⟩ := nI_of2 (M := 2) (n := 2) (by decide) g (Int32.not_lt.mp g2)
    obtain ⟨w, hw, e2⟩ := nI_of2 (M := 9) (n := 9) (by decide) g3 (Int32.not_lt.mp g4)
    exact zr_33 (Or.inl ⟨rfl, c, w, hc, hw, e, e2⟩) H
theorem zr_cell {post : Int32 → Prop} {L : Nat} {xs : Nat → Int32} (hL : L ≤ 5) (i : Nat) (x : Int32) (hx : x = nI i) (hi : i ≤ 4) (H : ∀ v, post v) : wpL_cellAt post L xs () x := by
  unfold wpL_cellAt
  subst hx
  exact pk_le L i (fun _ => H _) (fun z => ⟨pk_in i L z, H _⟩)
theorem i_vc (xs : Nat → Int32) (L : Nat) (hL : L ≤ 5) : wpL_law (fun r => r = 1) L xs := by
  unfold wpL_law
  refine zr_cell hL 0 0 rfl (by omega) (fun v0 => ?_)
  refine zr_cell hL 1 1 rfl (by omega) (fun v1 => ?_)
  refine zr_cell hL 2 2 rfl (by omega) (fun v2 => ?_)
  refine zr_cell hL 3 3 rfl (by omega) (fun v3 => ?_)
  refine zr_cell hL 4 4 rfl (by omega) (fun v4 => ?_)
  exact ⟨35, 910, by decide, by decide, zr_lawOf rfl⟩
end
