section
/-- an array of zeros -/
abbrev hv_z : Nat → Int32 := fun _ => 0
theorem hv_sz : ∀ t, t < 101 → (nI t).toInt8.toInt32 = nI t := by decide +kernel
theorem hv_z0 (k : Nat) : upd hv_z k 0 = hv_z := by
  funext j
  unfold upd
  split <;> rfl
/-- the law's sizes: 1 to 100 -/
theorem hv_x (p : Int32) : ∃ t : Nat, 1 ≤ t ∧ t ≤ 100 ∧ 1 + ((p &&& 65535) - (p &&& 65535) / 100 * 100) = nI t := by
  obtain ⟨j, hj, e⟩ := pk_andE p (m := 65535) 16 (by decide)
  refine ⟨1 + j % 100, by omega, by omega, ?_⟩
  rw [e]
  have h := pk_rem (a := j) (d := 100) (by omega) (by decide) (by decide)
  show nI 1 + (nI j - nI j / nI 100 * nI 100) = _
  rw [h, nI_add]
/-- what firstUnmet answers -/
def hv_fuR (x1 : Int32) (a5 : Nat → Int32) : Nat → Int32 → Option Int32
  | 0 => fun _ => none
  | n + 1 => fun x2 => if 16 ≤ x2 then some (-1) else if ((x1 >>> (x2 &&& 31)) &&& 1) = 0 then hv_fuR x1 a5 n (x2 + 1) else if x2 < 0 ∨ 17 ≤ x2.toNatClampNeg then none else if 0 ≤ a5 x2.toNatClampNeg then hv_fuR x1 a5 n (x2 + 1) else some x2
section
variable {fc fp fr fk fm : Int32} {a1 a2 a3 a4 a5 a6 a7 a8 a9 a10 a11 a12 a13 a14 a15 a16 : Nat → Int32}
theorem hv_fu {post : Int32 → Prop} {x1 r : Int32} (n : Nat) : ∀ x2, hv_fuR x1 a5 n x2 = some r → post r → wX_firstUnmet_2 post x1 fc fp fr fk fm a1 a2 a3 a4 a5 a6 a7 a8 a9 a10 a11 a12 a13 a14 a15 a16 n x2 := by
  induction n with
  | zero =>
    intro x2 h
    exact absurd h.symm (Option.some_ne_none r)
  | succ n ih =>
    intro x2 h hp
    simp only [hv_fuR] at h
    by_cases c1 : 16 ≤ x2
    · rw [if_pos c1] at h
      have e : (-1 : Int32) = r := Option.some.inj h
      exact br_t c1 (by rw [e]; exact hp)
    · rw [if_neg c1] at h
      by_cases c2 : ((x1 >>> (x2 &&& 31)) &&& 1) = 0
      · rw [if_pos c2] at h
        exact br_f c1 (br_t c2 (nm_e (ih _ h hp)))
      · rw [if_neg c2] at h
        by_cases c3 : x2 < 0 ∨ 17 ≤ x2.toNatClampNeg
        · rw [if_pos c3] at h
          exact absurd h.symm (Option.some_ne_none r)
        · rw [if_neg c3] at h
          by_cases c4 : 0 ≤ a5 x2.toNatClampNeg
          · rw [if_pos c4] at h
            exact br_f c1 (br_f c2 ⟨c3, br_t c4 (nm_e (ih _ h hp))⟩)
          · rw [if_neg c4] at h
            have e : x2 = r := Option.some.inj h
            exact br_f c1 (br_f c2 ⟨c3, br_f c4 (by rw [e]; exact hp)⟩)
theorem hv_fuW {post : Int32 → Prop} {x1 : Int32} (r : Int32) (h : hv_fuR x1 a5 17 0 = some r) (hp : post r) : wpX_firstUnmet post (fc, fp, fr, fk, fm, a1, a2, a3, a4, a5, a6, a7, a8, a9, a10, a11, a12, a13, a14, a15, a16) x1 :=
  Exists.intro 17 (hv_fu 17 0 h hp)
/-- one turn of walk's first loop -/
theorem hv_w2s {post : St2 → Prop} {n : Nat} (i : Nat) (hi : i < 17) (h : wX_walk_2 post fc fp fr fk fm n (nI (i + 1)) a1 a2 a3 a4 (upd a5 i (-1)) a6 a7 a8 a9 a10 a11 a12 a13 a14 a15 a16) : wX_walk_2 post fc fp fr fk fm (n + 1) (nI i) a1 a2 a3 a4 a5 a6 a7 a8 a9 a10 a11 a12 a13 a14 a15 a16 :=
  pk_le 17 i (fun z => absurd z (by omega)) (fun _ => ⟨pk_in i 17 hi, nm_r (by rw [nI_clamp (by omega)]) (nm_r (nI_1 i) h)⟩)
/-- one turn of leastEntry's loop: no reference from i -/
theorem hv_les {post : Int32 → St2 → Prop} {x2 x3 : Int32} {n : Nat} (i : Nat) (hi : i < 16) (hx : vp_in x2 16) (hb : ((a3 x2.toNatClampNeg) >>> (nI i &&& 31)) &&& 1 = 0) (h : wX_leastEntry_25 post x2 n x3 (nI (i + 1)) fc fp fr fk fm a1 a2 a3 a4 a5 a6 a7 a8 a9 a10 a11 a12 a13 a14 a15 a16) : wX_leastEntry_25 post x2 (n + 1) x3 (nI i) fc fp fr fk fm a1 a2 a3 a4 a5 a6 a7 a8 a9 a10 a11 a12 a13 a14 a15 a16 :=
  pk_le 16 i (fun z => absurd z (by omega)) (fun _ => ⟨hx, br_t hb (br_t rfl (nm_r (nI_1 i) h))⟩)
/-- leastEntry's loop to its end: no reference from the last k -/
theorem hv_leE {post : Int32 → St2 → Prop} {x2 x3 : Int32} {f : Nat} (k : Nat) (hk : k ≤ 16) (hf : k < f) (hx : vp_in x2 16) (hb : ∀ j, j < 16 → 16 - k ≤ j → ((a3 x2.toNatClampNeg) >>> (nI j &&& 31)) &&& 1 = 0) (hp : post x3 (fc, fp, fr, fk, fm, a1, a2, a3, a4, a5, a6, a7, a8, a9, a10, a11, a12, a13, a14, a15, a16)) : wX_leastEntry_25 post x2 f x3 (nI (16 - k)) fc fp fr fk fm a1 a2 a3 a4 a5 a6 a7 a8 a9 a10 a11 a12 a13 a14 a15 a16 := by
  induction k generalizing f with
  | zero =>
    obtain ⟨n, rfl⟩ : ∃ n, f = n + 1 := ⟨f - 1, by omega⟩
    exact pk_le 16 16 (fun _ => hp) (fun z => absurd z (by omega))
  | succ k ih =>
    obtain ⟨n, rfl⟩ : ∃ n, f = n + 1 := ⟨f - 1, by omega⟩
    have t := ih (f := n) (by omega) (by omega) (fun j h1 h2 => hb j h1 (by omega))
    rw [show 16 - k = 16 - (k + 1) + 1 by omega] at t
    exact hv_les _ (by omega) hx (hb _ (by omega) (by omega)) t
def hv_fill (a : Nat → Int32) : Nat → Int32 := upd (upd (upd (upd (upd (upd (upd (upd (upd (upd (upd (upd (upd (upd (upd (upd (upd a 0 (-1)) 1 (-1)) 2 (-1)) 3 (-1)) 4 (-1)) 5 (-1)) 6 (-1)) 7 (-1)) 8 (-1)) 9 (-1)) 10 (-1)) 11 (-1)) 12 (-1)) 13 (-1)) 14 (-1)) 15 (-1)) 16 (-1)
theorem hv_w2 {post : St2 → Prop} {n : Nat} (h : wX_walk_2 post fc fp fr fk fm n (nI 17) a1 a2 a3 a4 (hv_fill a5) a6 a7 a8 a9 a10 a11 a12 a13 a14 a15 a16) : wX_walk_2 post fc fp fr fk fm (n + 17) 0 a1 a2 a3 a4 a5 a6 a7 a8 a9 a10 a11 a12 a13 a14 a15 a16 :=
  hv_w2s 0 (by decide) (hv_w2s 1 (by decide) (hv_w2s 2 (by decide) (hv_w2s 3 (by decide) (hv_w2s 4 (by decide) (hv_w2s 5 (by decide) (hv_w2s 6 (by decide) (hv_w2s 7 (by decide) (hv_w2s 8 (by decide) (hv_w2s 9 (by decide) (hv_w2s 10 (by decide) (hv_w2s 11 (by decide) (hv_w2s 12 (by decide) (hv_w2s 13 (by decide) (hv_w2s 14 (by decide) (hv_w2s 15 (by decide) (hv_w2s 16 (by decide) h))))))))))))))))
end
theorem hv_sumN (X : Int32) : (0 : Int32) + X = X := Int32.zero_add X
theorem hv_sumB (X Y : Int32) : ((0 : Int32) + ((0 : Int32) + Y)) + X = X + Y := by
  rw [Int32.zero_add, Int32.zero_add, Int32.add_comm]
end
section
theorem hv_find_no {post : St2 → Prop} {X Y : Int32} (H : ∀ (fr fm : Int32) (a1 a2 a3 a4 a5 a6 a7 a8 a9 a10 a11 a12 a13 a14 a15 a16 : Nat → Int32), a15 0 = 1 → a5 0 = 1 → a5 1 = -1 → a16 1 = X → post (4, 3, fr, 1, fm, a1, a2, a3, a4, a5, a6, a7, a8, a9, a10, a11, a12, a13, a14, a15, a16)) : wpX_find post (4, 3, 1, 0, 0, upd (upd hv_z 0 X) 1 Y, hv_z, hv_z, hv_z, hv_z, hv_z, hv_z, hv_z, hv_z, hv_z, hv_z, hv_z, hv_z, hv_z, hv_z, hv_z) := by
  refine br_t (by decide +kernel) ?_
  refine Exists.intro (20 : Nat) ?_
  refine hv_w2 (n := 3) ?_
  refine br_t (by decide +kernel) ?_
  refine nm_e ?_
  refine And.intro (vp_in_iff.mpr (by decide +kernel)) ?_
  refine nm_e ?_
  refine And.intro (vp_in_iff.mpr (by decide +kernel)) ?_
  refine nm_e ?_
  refine And.intro (vp_in_iff.mpr (by decide +kernel)) ?_
  refine nm_e ?_
  refine nm_r (e' := (1 : Int32)) (by decide +kernel) ?_
  refine nm_e ?_
  refine Exists.intro (20 : Nat) ?_
  refine br_f (by decide +kernel) ?_
  refine br_f (by decide +kernel) ?_
  refine And.intro (vp_in_iff.mpr (by decide +kernel)) ?_
  refine nm_r (e' := (16 : Int32)) (by decide +kernel) ?_
  refine And.intro (vp_in_iff.mpr (by decide +kernel)) ?_
  refine hv_fuW (0 : Int32) (by decide +kernel) ?_
  refine br_t (by decide +kernel) ?_
  refine And.intro (vp_in_iff.mpr (by decide +kernel)) ?_
  refine And.intro (vp_in_iff.mpr (by decide +kernel)) ?_
  refine nm_e ?_
  refine And.intro (vp_in_iff.mpr (by decide +kernel)) ?_
  refine nm_e ?_
  refine And.intro (vp_in_iff.mpr (by decide +kernel)) ?_
  refine nm_e ?_
  refine nm_r (e' := (2 : Int32)) (by decide +kernel) ?_
  refine And.intro (vp_in_iff.mpr (by decide +kernel)) ?_
  refine nm_e ?_
  refine nm_r (e' := (2 : Int32)) (by decide +kernel) ?_
  refine nm_r (e' := (1 : Int32)) (by decide +kernel) ?_
  refine br_f (by decide +kernel) ?_
  refine br_f (by decide +kernel) ?_
  refine And.intro (vp_in_iff.mpr (by decide +kernel)) ?_
  refine nm_r (e' := (0 : Int32)) (by decide +kernel) ?_
  refine And.intro (vp_in_iff.mpr (by decide +kernel)) ?_
  refine hv_fuW (-1 : Int32) (by decide +kernel) ?_
  refine br_f (by decide +kernel) ?_
  refine nm_r (e' := (1 : Int32)) (by decide +kernel) ?_
  refine nm_r (e' := (2 : Int32)) (by decide +kernel) ?_
  refine br_f (by decide +kernel) ?_
  refine br_f (by decide +kernel) ?_
  refine And.intro (vp_in_iff.mpr (by decide +kernel)) ?_
  refine nm_r (e' := (16 : Int32)) (by decide +kernel) ?_
  refine And.intro (vp_in_iff.mpr (by decide +kernel)) ?_
  refine hv_fuW (-1 : Int32) (by decide +kernel) ?_
  refine br_f (by decide +kernel) ?_
  refine nm_r (e' := (0 : Int32)) (by decide +kernel) ?_
  refine nm_r (e' := (3 : Int32)) (by decide +kernel) ?_
  refine br_f (by decide +kernel) ?_
  refine br_t (by decide +kernel) ?_
  refine Exists.intro (20 : Nat) ?_
  refine br_f (by decide +kernel) ?_
  refine And.intro (vp_in_iff.mpr (by decide +kernel)) ?_
  refine nm_e ?_
  refine And.intro (vp_in_iff.mpr (by decide +kernel)) ?_
  refine nm_e ?_
  refine And.intro (vp_in_iff.mpr (by decide +kernel)) ?_
  refine nm_e ?_
  refine And.intro (vp_in_iff.mpr (by decide +kernel)) ?_
  refine nm_e ?_
  refine And.intro (vp_in_iff.mpr (by decide +kernel)) ?_
  refine nm_e ?_
  refine nm_r (e' := (1 : Int32)) (by decide +kernel) ?_
  refine br_f (by decide +kernel) ?_
  refine And.intro (vp_in_iff.mpr (by decide +kernel)) ?_
  refine nm_e ?_
  refine And.intro (vp_in_iff.mpr (by decide +kernel)) ?_
  refine nm_e ?_
  refine And.intro (vp_in_iff.mpr (by decide +kernel)) ?_
  refine nm_e ?_
  refine And.intro (vp_in_iff.mpr (by decide +kernel)) ?_
  refine nm_e ?_
  refine And.intro (vp_in_iff.mpr (by decide +kernel)) ?_
  refine nm_e ?_
  refine nm_r (e' := (2 : Int32)) (by decide +kernel) ?_
  refine br_t (by decide +kernel) ?_
  refine nm_r (e' := (1 : Int32)) (by decide +kernel) ?_
  refine Exists.intro (20 : Nat) ?_
  refine br_f (by decide +kernel) ?_
  refine And.intro (vp_in_iff.mpr (by decide +kernel)) ?_
  refine nm_r (e' := (0 : Int32)) (by decide +kernel) ?_
  refine br_f (by decide +kernel) ?_
  refine Exists.intro (20 : Nat) ?_
  refine hv_leE 16 (by decide) (by decide) (vp_in_iff.mpr (by decide +kernel)) (by decide +kernel) ?_
  refine And.intro (vp_in_iff.mpr (by decide +kernel)) ?_
  refine nm_e ?_
  refine And.intro (vp_in_iff.mpr (by decide +kernel)) ?_
  refine And.intro (vp_in_iff.mpr (by decide +kernel)) ?_
  refine And.intro (vp_in_iff.mpr (by decide +kernel)) ?_
  refine nm_e ?_
  refine And.intro (vp_in_iff.mpr (by decide +kernel)) ?_
  refine And.intro (vp_in_iff.mpr (by decide +kernel)) ?_
  refine nm_e ?_
  refine And.intro (vp_in_iff.mpr (by decide +kernel)) ?_
  refine And.intro (vp_in_iff.mpr (by decide +kernel)) ?_
  refine nm_r (e' := (2 : Int32)) (by decide +kernel) ?_
  refine And.intro (vp_in_iff.mpr (by decide +kernel)) ?_
  refine nm_e ?_
  refine Exists.intro (20 : Nat) ?_
  refine br_f (by decide +kernel) ?_
  refine br_f (by decide +kernel) ?_
  refine And.intro (vp_in_iff.mpr (by decide +kernel)) ?_
  refine br_t (by decide +kernel) ?_
  refine Exists.intro (20 : Nat) ?_
  refine br_f (by decide +kernel) ?_
  refine And.intro (vp_in_iff.mpr (by decide +kernel)) ?_
  refine br_f (by decide +kernel) ?_
  refine And.intro (vp_in_iff.mpr (by decide +kernel)) ?_
  refine And.intro (vp_in_iff.mpr (by decide +kernel)) ?_
  refine br_t (by decide +kernel) ?_
  refine nm_r (e' := (-1 : Int32)) (by decide +kernel) ?_
  refine Exists.intro (20 : Nat) ?_
  refine br_t (by decide +kernel) ?_
  refine And.intro (vp_in_iff.mpr (by decide +kernel)) ?_
  refine And.intro (vp_in_iff.mpr (by decide +kernel)) ?_
  refine And.intro (vp_in_iff.mpr (by decide +kernel)) ?_
  refine br_t (by decide +kernel) ?_
  refine And.intro (vp_in_iff.mpr (by decide +kernel)) ?_
  refine nm_e ?_
  refine nm_r (e' := (2 : Int32)) (by decide +kernel) ?_
  refine br_t (by decide +kernel) ?_
  refine nm_r (e' := (0 : Int32)) (by decide +kernel) ?_
  refine br_t (by decide +kernel) ?_
  refine nm_e ?_
  refine Exists.intro (20 : Nat) ?_
  refine br_f (by decide +kernel) ?_
  refine And.intro (vp_in_iff.mpr (by decide +kernel)) ?_
  refine And.intro (vp_in_iff.mpr (by decide +kernel)) ?_
  refine br_t (by decide +kernel) ?_
  refine And.intro (vp_in_iff.mpr (by decide +kernel)) ?_
  refine And.intro (vp_in_iff.mpr (by decide +kernel)) ?_
  refine And.intro (vp_in_iff.mpr (by decide +kernel)) ?_
  refine nm_e ?_
  refine nm_r (e' := (2 : Int32)) (by decide +kernel) ?_
  refine br_t (by decide +kernel) ?_
  refine Exists.intro (20 : Nat) ?_
  refine br_f (by decide +kernel) ?_
  refine And.intro (vp_in_iff.mpr (by decide +kernel)) ?_
  refine nm_e ?_
  refine And.intro (vp_in_iff.mpr (by decide +kernel)) ?_
  refine nm_e ?_
  refine nm_r (e' := (1 : Int32)) (by decide +kernel) ?_
  refine br_f (by decide +kernel) ?_
  refine And.intro (vp_in_iff.mpr (by decide +kernel)) ?_
  refine nm_e ?_
  refine And.intro (vp_in_iff.mpr (by decide +kernel)) ?_
  refine nm_e ?_
  refine nm_r (e' := (2 : Int32)) (by decide +kernel) ?_
  refine br_t (by decide +kernel) ?_
  refine nm_r (e' := (1 : Int32)) (by decide +kernel) ?_
  refine Exists.intro (20 : Nat) ?_
  refine br_f (by decide +kernel) ?_
  refine And.intro (vp_in_iff.mpr (by decide +kernel)) ?_
  refine nm_r (e' := (0 : Int32)) (by decide +kernel) ?_
  refine And.intro (vp_in_iff.mpr (by decide +kernel)) ?_
  refine And.intro (vp_in_iff.mpr (by decide +kernel)) ?_
  refine nm_e ?_
  refine And.intro (vp_in_iff.mpr (by decide +kernel)) ?_
  refine And.intro (vp_in_iff.mpr (by decide +kernel)) ?_
  refine And.intro (vp_in_iff.mpr (by decide +kernel)) ?_
  refine nm_e ?_
  refine And.intro (vp_in_iff.mpr (by decide +kernel)) ?_
  refine nm_r (e' := (0 : Int32)) (by decide +kernel) ?_
  refine And.intro (vp_in_iff.mpr (by decide +kernel)) ?_
  refine And.intro (vp_in_iff.mpr (by decide +kernel)) ?_
  refine And.intro (vp_in_iff.mpr (by decide +kernel)) ?_
  refine nm_e ?_
  refine And.intro (vp_in_iff.mpr (by decide +kernel)) ?_
  refine And.intro (vp_in_iff.mpr (by decide +kernel)) ?_
  refine And.intro (vp_in_iff.mpr (by decide +kernel)) ?_
  refine nm_e ?_
  refine nm_r (e' := (0 : Int32)) (by decide +kernel) ?_
  refine br_t (by decide +kernel) ?_
  exact H _ _ _ _ _ _ _ _ _ _ _ _ _ _ _ _ _ _ (by decide +kernel) (by decide +kernel) (by decide +kernel) (hv_sumN X)
theorem hv_find_00 {post : St2 → Prop} {X Y : Int32} (H : ∀ (fr fm : Int32) (a1 a2 a3 a4 a5 a6 a7 a8 a9 a10 a11 a12 a13 a14 a15 a16 : Nat → Int32), a15 0 = 1 → a5 0 = 1 → a5 1 = -1 → a16 1 = X → post (4, 3, fr, 1, fm, a1, a2, a3, a4, a5, a6, a7, a8, a9, a10, a11, a12, a13, a14, a15, a16)) : wpX_find post (4, 3, 1, 0, 0, upd (upd hv_z 0 X) 1 Y, upd hv_z 0 1, upd hv_z 0 1, hv_z, hv_z, hv_z, hv_z, hv_z, hv_z, hv_z, hv_z, hv_z, hv_z, hv_z, hv_z, hv_z) := by
  refine br_t (by decide +kernel) ?_
  refine Exists.intro (20 : Nat) ?_
  refine hv_w2 (n := 3) ?_
  refine br_t (by decide +kernel) ?_
  refine nm_e ?_
  refine And.intro (vp_in_iff.mpr (by decide +kernel)) ?_
  refine nm_e ?_
  refine And.intro (vp_in_iff.mpr (by decide +kernel)) ?_
  refine nm_e ?_
  refine And.intro (vp_in_iff.mpr (by decide +kernel)) ?_
  refine nm_e ?_
  refine nm_r (e' := (1 : Int32)) (by decide +kernel) ?_
  refine nm_e ?_
  refine Exists.intro (20 : Nat) ?_
  refine br_f (by decide +kernel) ?_
  refine br_f (by decide +kernel) ?_
  refine And.intro (vp_in_iff.mpr (by decide +kernel)) ?_
  refine nm_r (e' := (16 : Int32)) (by decide +kernel) ?_
  refine And.intro (vp_in_iff.mpr (by decide +kernel)) ?_
  refine hv_fuW (0 : Int32) (by decide +kernel) ?_
  refine br_t (by decide +kernel) ?_
  refine And.intro (vp_in_iff.mpr (by decide +kernel)) ?_
  refine And.intro (vp_in_iff.mpr (by decide +kernel)) ?_
  refine nm_e ?_
  refine And.intro (vp_in_iff.mpr (by decide +kernel)) ?_
  refine nm_e ?_
  refine And.intro (vp_in_iff.mpr (by decide +kernel)) ?_
  refine nm_e ?_
  refine nm_r (e' := (2 : Int32)) (by decide +kernel) ?_
  refine And.intro (vp_in_iff.mpr (by decide +kernel)) ?_
  refine nm_e ?_
  refine nm_r (e' := (2 : Int32)) (by decide +kernel) ?_
  refine nm_r (e' := (1 : Int32)) (by decide +kernel) ?_
  refine br_f (by decide +kernel) ?_
  refine br_f (by decide +kernel) ?_
  refine And.intro (vp_in_iff.mpr (by decide +kernel)) ?_
  refine nm_r (e' := (0 : Int32)) (by decide +kernel) ?_
  refine And.intro (vp_in_iff.mpr (by decide +kernel)) ?_
  refine hv_fuW (-1 : Int32) (by decide +kernel) ?_
  refine br_f (by decide +kernel) ?_
  refine nm_r (e' := (1 : Int32)) (by decide +kernel) ?_
  refine nm_r (e' := (2 : Int32)) (by decide +kernel) ?_
  refine br_f (by decide +kernel) ?_
  refine br_f (by decide +kernel) ?_
  refine And.intro (vp_in_iff.mpr (by decide +kernel)) ?_
  refine nm_r (e' := (16 : Int32)) (by decide +kernel) ?_
  refine And.intro (vp_in_iff.mpr (by decide +kernel)) ?_
  refine hv_fuW (-1 : Int32) (by decide +kernel) ?_
  refine br_f (by decide +kernel) ?_
  refine nm_r (e' := (0 : Int32)) (by decide +kernel) ?_
  refine nm_r (e' := (3 : Int32)) (by decide +kernel) ?_
  refine br_f (by decide +kernel) ?_
  refine br_t (by decide +kernel) ?_
  refine Exists.intro (20 : Nat) ?_
  refine br_f (by decide +kernel) ?_
  refine And.intro (vp_in_iff.mpr (by decide +kernel)) ?_
  refine nm_e ?_
  refine And.intro (vp_in_iff.mpr (by decide +kernel)) ?_
  refine nm_e ?_
  refine And.intro (vp_in_iff.mpr (by decide +kernel)) ?_
  refine nm_e ?_
  refine And.intro (vp_in_iff.mpr (by decide +kernel)) ?_
  refine nm_e ?_
  refine And.intro (vp_in_iff.mpr (by decide +kernel)) ?_
  refine nm_e ?_
  refine nm_r (e' := (1 : Int32)) (by decide +kernel) ?_
  refine br_f (by decide +kernel) ?_
  refine And.intro (vp_in_iff.mpr (by decide +kernel)) ?_
  refine nm_e ?_
  refine And.intro (vp_in_iff.mpr (by decide +kernel)) ?_
  refine nm_e ?_
  refine And.intro (vp_in_iff.mpr (by decide +kernel)) ?_
  refine nm_e ?_
  refine And.intro (vp_in_iff.mpr (by decide +kernel)) ?_
  refine nm_e ?_
  refine And.intro (vp_in_iff.mpr (by decide +kernel)) ?_
  refine nm_e ?_
  refine nm_r (e' := (2 : Int32)) (by decide +kernel) ?_
  refine br_t (by decide +kernel) ?_
  refine nm_r (e' := (1 : Int32)) (by decide +kernel) ?_
  refine Exists.intro (20 : Nat) ?_
  refine br_f (by decide +kernel) ?_
  refine And.intro (vp_in_iff.mpr (by decide +kernel)) ?_
  refine nm_r (e' := (0 : Int32)) (by decide +kernel) ?_
  refine br_f (by decide +kernel) ?_
  refine Exists.intro (20 : Nat) ?_
  refine br_f (by decide +kernel) ?_
  refine And.intro (vp_in_iff.mpr (by decide +kernel)) ?_
  refine br_f (by decide +kernel) ?_
  refine br_f (by decide +kernel) ?_
  refine And.intro (vp_in_iff.mpr (by decide +kernel)) ?_
  refine br_f (by decide +kernel) ?_
  refine And.intro (vp_in_iff.mpr (by decide +kernel)) ?_
  refine And.intro (vp_in_iff.mpr (by decide +kernel)) ?_
  refine br_f (by decide +kernel) ?_
  refine And.intro (vp_in_iff.mpr (by decide +kernel)) ?_
  refine br_t (by decide +kernel) ?_
  refine nm_r (e' := (1 : Int32)) (by decide +kernel) ?_
  refine hv_leE 15 (by decide) (by decide) (vp_in_iff.mpr (by decide +kernel)) (by decide +kernel) ?_
  refine And.intro (vp_in_iff.mpr (by decide +kernel)) ?_
  refine nm_e ?_
  refine And.intro (vp_in_iff.mpr (by decide +kernel)) ?_
  refine And.intro (vp_in_iff.mpr (by decide +kernel)) ?_
  refine And.intro (vp_in_iff.mpr (by decide +kernel)) ?_
  refine nm_e ?_
  refine And.intro (vp_in_iff.mpr (by decide +kernel)) ?_
  refine And.intro (vp_in_iff.mpr (by decide +kernel)) ?_
  refine nm_e ?_
  refine And.intro (vp_in_iff.mpr (by decide +kernel)) ?_
  refine And.intro (vp_in_iff.mpr (by decide +kernel)) ?_
  refine nm_r (e' := (2 : Int32)) (by decide +kernel) ?_
  refine And.intro (vp_in_iff.mpr (by decide +kernel)) ?_
  refine nm_e ?_
  refine Exists.intro (20 : Nat) ?_
  refine br_f (by decide +kernel) ?_
  refine br_f (by decide +kernel) ?_
  refine And.intro (vp_in_iff.mpr (by decide +kernel)) ?_
  refine br_t (by decide +kernel) ?_
  refine Exists.intro (20 : Nat) ?_
  refine br_f (by decide +kernel) ?_
  refine And.intro (vp_in_iff.mpr (by decide +kernel)) ?_
  refine br_f (by decide +kernel) ?_
  refine And.intro (vp_in_iff.mpr (by decide +kernel)) ?_
  refine And.intro (vp_in_iff.mpr (by decide +kernel)) ?_
  refine br_t (by decide +kernel) ?_
  refine nm_r (e' := (-1 : Int32)) (by decide +kernel) ?_
  refine Exists.intro (20 : Nat) ?_
  refine br_t (by decide +kernel) ?_
  refine And.intro (vp_in_iff.mpr (by decide +kernel)) ?_
  refine And.intro (vp_in_iff.mpr (by decide +kernel)) ?_
  refine And.intro (vp_in_iff.mpr (by decide +kernel)) ?_
  refine br_t (by decide +kernel) ?_
  refine And.intro (vp_in_iff.mpr (by decide +kernel)) ?_
  refine nm_e ?_
  refine nm_r (e' := (2 : Int32)) (by decide +kernel) ?_
  refine br_t (by decide +kernel) ?_
  refine nm_r (e' := (0 : Int32)) (by decide +kernel) ?_
  refine br_t (by decide +kernel) ?_
  refine nm_e ?_
  refine Exists.intro (20 : Nat) ?_
  refine br_f (by decide +kernel) ?_
  refine And.intro (vp_in_iff.mpr (by decide +kernel)) ?_
  refine And.intro (vp_in_iff.mpr (by decide +kernel)) ?_
  refine br_t (by decide +kernel) ?_
  refine And.intro (vp_in_iff.mpr (by decide +kernel)) ?_
  refine And.intro (vp_in_iff.mpr (by decide +kernel)) ?_
  refine And.intro (vp_in_iff.mpr (by decide +kernel)) ?_
  refine nm_e ?_
  refine nm_r (e' := (2 : Int32)) (by decide +kernel) ?_
  refine br_t (by decide +kernel) ?_
  refine Exists.intro (20 : Nat) ?_
  refine br_f (by decide +kernel) ?_
  refine And.intro (vp_in_iff.mpr (by decide +kernel)) ?_
  refine nm_e ?_
  refine And.intro (vp_in_iff.mpr (by decide +kernel)) ?_
  refine nm_e ?_
  refine nm_r (e' := (1 : Int32)) (by decide +kernel) ?_
  refine br_f (by decide +kernel) ?_
  refine And.intro (vp_in_iff.mpr (by decide +kernel)) ?_
  refine nm_e ?_
  refine And.intro (vp_in_iff.mpr (by decide +kernel)) ?_
  refine nm_e ?_
  refine nm_r (e' := (2 : Int32)) (by decide +kernel) ?_
  refine br_t (by decide +kernel) ?_
  refine nm_r (e' := (1 : Int32)) (by decide +kernel) ?_
  refine Exists.intro (20 : Nat) ?_
  refine br_f (by decide +kernel) ?_
  refine And.intro (vp_in_iff.mpr (by decide +kernel)) ?_
  refine nm_r (e' := (0 : Int32)) (by decide +kernel) ?_
  refine And.intro (vp_in_iff.mpr (by decide +kernel)) ?_
  refine And.intro (vp_in_iff.mpr (by decide +kernel)) ?_
  refine nm_e ?_
  refine And.intro (vp_in_iff.mpr (by decide +kernel)) ?_
  refine And.intro (vp_in_iff.mpr (by decide +kernel)) ?_
  refine And.intro (vp_in_iff.mpr (by decide +kernel)) ?_
  refine nm_e ?_
  refine And.intro (vp_in_iff.mpr (by decide +kernel)) ?_
  refine nm_r (e' := (0 : Int32)) (by decide +kernel) ?_
  refine And.intro (vp_in_iff.mpr (by decide +kernel)) ?_
  refine And.intro (vp_in_iff.mpr (by decide +kernel)) ?_
  refine And.intro (vp_in_iff.mpr (by decide +kernel)) ?_
  refine nm_e ?_
  refine And.intro (vp_in_iff.mpr (by decide +kernel)) ?_
  refine And.intro (vp_in_iff.mpr (by decide +kernel)) ?_
  refine And.intro (vp_in_iff.mpr (by decide +kernel)) ?_
  refine nm_e ?_
  refine nm_r (e' := (0 : Int32)) (by decide +kernel) ?_
  refine br_t (by decide +kernel) ?_
  exact H _ _ _ _ _ _ _ _ _ _ _ _ _ _ _ _ _ _ (by decide +kernel) (by decide +kernel) (by decide +kernel) (hv_sumN X)
theorem hv_find_10 {post : St2 → Prop} {X Y : Int32} (H : ∀ (fr fm : Int32) (a1 a2 a3 a4 a5 a6 a7 a8 a9 a10 a11 a12 a13 a14 a15 a16 : Nat → Int32), a15 0 = 1 → a5 0 = 1 → a5 1 = -1 → a16 1 = X → post (4, 3, fr, 1, fm, a1, a2, a3, a4, a5, a6, a7, a8, a9, a10, a11, a12, a13, a14, a15, a16)) : wpX_find post (4, 3, 1, 0, 0, upd (upd hv_z 0 X) 1 Y, upd hv_z 1 1, upd hv_z 0 2, hv_z, hv_z, hv_z, hv_z, hv_z, hv_z, hv_z, hv_z, hv_z, hv_z, hv_z, hv_z, hv_z) := by
  refine br_t (by decide +kernel) ?_
  refine Exists.intro (20 : Nat) ?_
  refine hv_w2 (n := 3) ?_
  refine br_t (by decide +kernel) ?_
  refine nm_e ?_
  refine And.intro (vp_in_iff.mpr (by decide +kernel)) ?_
  refine nm_e ?_
  refine And.intro (vp_in_iff.mpr (by decide +kernel)) ?_
  refine nm_e ?_
  refine And.intro (vp_in_iff.mpr (by decide +kernel)) ?_
  refine nm_e ?_
  refine nm_r (e' := (1 : Int32)) (by decide +kernel) ?_
  refine nm_e ?_
  refine Exists.intro (20 : Nat) ?_
  refine br_f (by decide +kernel) ?_
  refine br_f (by decide +kernel) ?_
  refine And.intro (vp_in_iff.mpr (by decide +kernel)) ?_
  refine nm_r (e' := (16 : Int32)) (by decide +kernel) ?_
  refine And.intro (vp_in_iff.mpr (by decide +kernel)) ?_
  refine hv_fuW (0 : Int32) (by decide +kernel) ?_
  refine br_t (by decide +kernel) ?_
  refine And.intro (vp_in_iff.mpr (by decide +kernel)) ?_
  refine And.intro (vp_in_iff.mpr (by decide +kernel)) ?_
  refine nm_e ?_
  refine And.intro (vp_in_iff.mpr (by decide +kernel)) ?_
  refine nm_e ?_
  refine And.intro (vp_in_iff.mpr (by decide +kernel)) ?_
  refine nm_e ?_
  refine nm_r (e' := (2 : Int32)) (by decide +kernel) ?_
  refine And.intro (vp_in_iff.mpr (by decide +kernel)) ?_
  refine nm_e ?_
  refine nm_r (e' := (2 : Int32)) (by decide +kernel) ?_
  refine nm_r (e' := (1 : Int32)) (by decide +kernel) ?_
  refine br_f (by decide +kernel) ?_
  refine br_f (by decide +kernel) ?_
  refine And.intro (vp_in_iff.mpr (by decide +kernel)) ?_
  refine nm_r (e' := (0 : Int32)) (by decide +kernel) ?_
  refine And.intro (vp_in_iff.mpr (by decide +kernel)) ?_
  refine hv_fuW (-1 : Int32) (by decide +kernel) ?_
  refine br_f (by decide +kernel) ?_
  refine nm_r (e' := (1 : Int32)) (by decide +kernel) ?_
  refine nm_r (e' := (2 : Int32)) (by decide +kernel) ?_
  refine br_f (by decide +kernel) ?_
  refine br_f (by decide +kernel) ?_
  refine And.intro (vp_in_iff.mpr (by decide +kernel)) ?_
  refine nm_r (e' := (16 : Int32)) (by decide +kernel) ?_
  refine And.intro (vp_in_iff.mpr (by decide +kernel)) ?_
  refine hv_fuW (-1 : Int32) (by decide +kernel) ?_
  refine br_f (by decide +kernel) ?_
  refine nm_r (e' := (0 : Int32)) (by decide +kernel) ?_
  refine nm_r (e' := (3 : Int32)) (by decide +kernel) ?_
  refine br_f (by decide +kernel) ?_
  refine br_t (by decide +kernel) ?_
  refine Exists.intro (20 : Nat) ?_
  refine br_f (by decide +kernel) ?_
  refine And.intro (vp_in_iff.mpr (by decide +kernel)) ?_
  refine nm_e ?_
  refine And.intro (vp_in_iff.mpr (by decide +kernel)) ?_
  refine nm_e ?_
  refine And.intro (vp_in_iff.mpr (by decide +kernel)) ?_
  refine nm_e ?_
  refine And.intro (vp_in_iff.mpr (by decide +kernel)) ?_
  refine nm_e ?_
  refine And.intro (vp_in_iff.mpr (by decide +kernel)) ?_
  refine nm_e ?_
  refine nm_r (e' := (1 : Int32)) (by decide +kernel) ?_
  refine br_f (by decide +kernel) ?_
  refine And.intro (vp_in_iff.mpr (by decide +kernel)) ?_
  refine nm_e ?_
  refine And.intro (vp_in_iff.mpr (by decide +kernel)) ?_
  refine nm_e ?_
  refine And.intro (vp_in_iff.mpr (by decide +kernel)) ?_
  refine nm_e ?_
  refine And.intro (vp_in_iff.mpr (by decide +kernel)) ?_
  refine nm_e ?_
  refine And.intro (vp_in_iff.mpr (by decide +kernel)) ?_
  refine nm_e ?_
  refine nm_r (e' := (2 : Int32)) (by decide +kernel) ?_
  refine br_t (by decide +kernel) ?_
  refine nm_r (e' := (1 : Int32)) (by decide +kernel) ?_
  refine Exists.intro (20 : Nat) ?_
  refine br_f (by decide +kernel) ?_
  refine And.intro (vp_in_iff.mpr (by decide +kernel)) ?_
  refine nm_r (e' := (0 : Int32)) (by decide +kernel) ?_
  refine br_f (by decide +kernel) ?_
  refine Exists.intro (20 : Nat) ?_
  refine br_f (by decide +kernel) ?_
  refine And.intro (vp_in_iff.mpr (by decide +kernel)) ?_
  refine br_t (by decide +kernel) ?_
  refine br_t (by decide +kernel) ?_
  refine nm_r (e' := (1 : Int32)) (by decide +kernel) ?_
  refine br_f (by decide +kernel) ?_
  refine And.intro (vp_in_iff.mpr (by decide +kernel)) ?_
  refine br_f (by decide +kernel) ?_
  refine br_f (by decide +kernel) ?_
  refine And.intro (vp_in_iff.mpr (by decide +kernel)) ?_
  refine br_t (by decide +kernel) ?_
  refine nm_r (e' := (2 : Int32)) (by decide +kernel) ?_
  refine hv_leE 14 (by decide) (by decide) (vp_in_iff.mpr (by decide +kernel)) (by decide +kernel) ?_
  refine And.intro (vp_in_iff.mpr (by decide +kernel)) ?_
  refine nm_e ?_
  refine And.intro (vp_in_iff.mpr (by decide +kernel)) ?_
  refine And.intro (vp_in_iff.mpr (by decide +kernel)) ?_
  refine And.intro (vp_in_iff.mpr (by decide +kernel)) ?_
  refine nm_e ?_
  refine And.intro (vp_in_iff.mpr (by decide +kernel)) ?_
  refine And.intro (vp_in_iff.mpr (by decide +kernel)) ?_
  refine nm_e ?_
  refine And.intro (vp_in_iff.mpr (by decide +kernel)) ?_
  refine And.intro (vp_in_iff.mpr (by decide +kernel)) ?_
  refine nm_r (e' := (2 : Int32)) (by decide +kernel) ?_
  refine And.intro (vp_in_iff.mpr (by decide +kernel)) ?_
  refine nm_e ?_
  refine Exists.intro (20 : Nat) ?_
  refine br_f (by decide +kernel) ?_
  refine br_f (by decide +kernel) ?_
  refine And.intro (vp_in_iff.mpr (by decide +kernel)) ?_
  refine br_t (by decide +kernel) ?_
  refine Exists.intro (20 : Nat) ?_
  refine br_f (by decide +kernel) ?_
  refine And.intro (vp_in_iff.mpr (by decide +kernel)) ?_
  refine br_f (by decide +kernel) ?_
  refine And.intro (vp_in_iff.mpr (by decide +kernel)) ?_
  refine And.intro (vp_in_iff.mpr (by decide +kernel)) ?_
  refine br_t (by decide +kernel) ?_
  refine nm_r (e' := (-1 : Int32)) (by decide +kernel) ?_
  refine Exists.intro (20 : Nat) ?_
  refine br_t (by decide +kernel) ?_
  refine And.intro (vp_in_iff.mpr (by decide +kernel)) ?_
  refine And.intro (vp_in_iff.mpr (by decide +kernel)) ?_
  refine And.intro (vp_in_iff.mpr (by decide +kernel)) ?_
  refine br_t (by decide +kernel) ?_
  refine And.intro (vp_in_iff.mpr (by decide +kernel)) ?_
  refine nm_e ?_
  refine nm_r (e' := (2 : Int32)) (by decide +kernel) ?_
  refine br_t (by decide +kernel) ?_
  refine nm_r (e' := (0 : Int32)) (by decide +kernel) ?_
  refine br_t (by decide +kernel) ?_
  refine nm_e ?_
  refine Exists.intro (20 : Nat) ?_
  refine br_f (by decide +kernel) ?_
  refine And.intro (vp_in_iff.mpr (by decide +kernel)) ?_
  refine And.intro (vp_in_iff.mpr (by decide +kernel)) ?_
  refine br_t (by decide +kernel) ?_
  refine And.intro (vp_in_iff.mpr (by decide +kernel)) ?_
  refine And.intro (vp_in_iff.mpr (by decide +kernel)) ?_
  refine And.intro (vp_in_iff.mpr (by decide +kernel)) ?_
  refine nm_e ?_
  refine nm_r (e' := (2 : Int32)) (by decide +kernel) ?_
  refine br_t (by decide +kernel) ?_
  refine Exists.intro (20 : Nat) ?_
  refine br_f (by decide +kernel) ?_
  refine And.intro (vp_in_iff.mpr (by decide +kernel)) ?_
  refine nm_e ?_
  refine And.intro (vp_in_iff.mpr (by decide +kernel)) ?_
  refine nm_e ?_
  refine nm_r (e' := (1 : Int32)) (by decide +kernel) ?_
  refine br_f (by decide +kernel) ?_
  refine And.intro (vp_in_iff.mpr (by decide +kernel)) ?_
  refine nm_e ?_
  refine And.intro (vp_in_iff.mpr (by decide +kernel)) ?_
  refine nm_e ?_
  refine nm_r (e' := (2 : Int32)) (by decide +kernel) ?_
  refine br_t (by decide +kernel) ?_
  refine nm_r (e' := (1 : Int32)) (by decide +kernel) ?_
  refine Exists.intro (20 : Nat) ?_
  refine br_f (by decide +kernel) ?_
  refine And.intro (vp_in_iff.mpr (by decide +kernel)) ?_
  refine nm_r (e' := (0 : Int32)) (by decide +kernel) ?_
  refine And.intro (vp_in_iff.mpr (by decide +kernel)) ?_
  refine And.intro (vp_in_iff.mpr (by decide +kernel)) ?_
  refine nm_e ?_
  refine And.intro (vp_in_iff.mpr (by decide +kernel)) ?_
  refine And.intro (vp_in_iff.mpr (by decide +kernel)) ?_
  refine And.intro (vp_in_iff.mpr (by decide +kernel)) ?_
  refine nm_e ?_
  refine And.intro (vp_in_iff.mpr (by decide +kernel)) ?_
  refine nm_r (e' := (0 : Int32)) (by decide +kernel) ?_
  refine And.intro (vp_in_iff.mpr (by decide +kernel)) ?_
  refine And.intro (vp_in_iff.mpr (by decide +kernel)) ?_
  refine And.intro (vp_in_iff.mpr (by decide +kernel)) ?_
  refine nm_e ?_
  refine And.intro (vp_in_iff.mpr (by decide +kernel)) ?_
  refine And.intro (vp_in_iff.mpr (by decide +kernel)) ?_
  refine And.intro (vp_in_iff.mpr (by decide +kernel)) ?_
  refine nm_e ?_
  refine nm_r (e' := (0 : Int32)) (by decide +kernel) ?_
  refine br_t (by decide +kernel) ?_
  exact H _ _ _ _ _ _ _ _ _ _ _ _ _ _ _ _ _ _ (by decide +kernel) (by decide +kernel) (by decide +kernel) (hv_sumN X)
theorem hv_find_11 {post : St2 → Prop} {X Y : Int32} (H : ∀ (fr fm : Int32) (a1 a2 a3 a4 a5 a6 a7 a8 a9 a10 a11 a12 a13 a14 a15 a16 : Nat → Int32), a15 0 = 1 → a5 0 = 1 → a5 1 = -1 → a16 1 = X → post (4, 3, fr, 1, fm, a1, a2, a3, a4, a5, a6, a7, a8, a9, a10, a11, a12, a13, a14, a15, a16)) : wpX_find post (4, 3, 1, 0, 0, upd (upd hv_z 0 X) 1 Y, upd hv_z 1 2, upd hv_z 1 2, hv_z, hv_z, hv_z, hv_z, hv_z, hv_z, hv_z, hv_z, hv_z, hv_z, hv_z, hv_z, hv_z) := by
  refine br_t (by decide +kernel) ?_
  refine Exists.intro (20 : Nat) ?_
  refine hv_w2 (n := 3) ?_
  refine br_t (by decide +kernel) ?_
  refine nm_e ?_
  refine And.intro (vp_in_iff.mpr (by decide +kernel)) ?_
  refine nm_e ?_
  refine And.intro (vp_in_iff.mpr (by decide +kernel)) ?_
  refine nm_e ?_
  refine And.intro (vp_in_iff.mpr (by decide +kernel)) ?_
  refine nm_e ?_
  refine nm_r (e' := (1 : Int32)) (by decide +kernel) ?_
  refine nm_e ?_
  refine Exists.intro (20 : Nat) ?_
  refine br_f (by decide +kernel) ?_
  refine br_f (by decide +kernel) ?_
  refine And.intro (vp_in_iff.mpr (by decide +kernel)) ?_
  refine nm_r (e' := (16 : Int32)) (by decide +kernel) ?_
  refine And.intro (vp_in_iff.mpr (by decide +kernel)) ?_
  refine hv_fuW (0 : Int32) (by decide +kernel) ?_
  refine br_t (by decide +kernel) ?_
  refine And.intro (vp_in_iff.mpr (by decide +kernel)) ?_
  refine And.intro (vp_in_iff.mpr (by decide +kernel)) ?_
  refine nm_e ?_
  refine And.intro (vp_in_iff.mpr (by decide +kernel)) ?_
  refine nm_e ?_
  refine And.intro (vp_in_iff.mpr (by decide +kernel)) ?_
  refine nm_e ?_
  refine nm_r (e' := (2 : Int32)) (by decide +kernel) ?_
  refine And.intro (vp_in_iff.mpr (by decide +kernel)) ?_
  refine nm_e ?_
  refine nm_r (e' := (2 : Int32)) (by decide +kernel) ?_
  refine nm_r (e' := (1 : Int32)) (by decide +kernel) ?_
  refine br_f (by decide +kernel) ?_
  refine br_f (by decide +kernel) ?_
  refine And.intro (vp_in_iff.mpr (by decide +kernel)) ?_
  refine nm_r (e' := (0 : Int32)) (by decide +kernel) ?_
  refine And.intro (vp_in_iff.mpr (by decide +kernel)) ?_
  refine hv_fuW (-1 : Int32) (by decide +kernel) ?_
  refine br_f (by decide +kernel) ?_
  refine nm_r (e' := (1 : Int32)) (by decide +kernel) ?_
  refine nm_r (e' := (2 : Int32)) (by decide +kernel) ?_
  refine br_f (by decide +kernel) ?_
  refine br_f (by decide +kernel) ?_
  refine And.intro (vp_in_iff.mpr (by decide +kernel)) ?_
  refine nm_r (e' := (16 : Int32)) (by decide +kernel) ?_
  refine And.intro (vp_in_iff.mpr (by decide +kernel)) ?_
  refine hv_fuW (-1 : Int32) (by decide +kernel) ?_
  refine br_f (by decide +kernel) ?_
  refine nm_r (e' := (0 : Int32)) (by decide +kernel) ?_
  refine nm_r (e' := (3 : Int32)) (by decide +kernel) ?_
  refine br_f (by decide +kernel) ?_
  refine br_t (by decide +kernel) ?_
  refine Exists.intro (20 : Nat) ?_
  refine br_f (by decide +kernel) ?_
  refine And.intro (vp_in_iff.mpr (by decide +kernel)) ?_
  refine nm_e ?_
  refine And.intro (vp_in_iff.mpr (by decide +kernel)) ?_
  refine nm_e ?_
  refine And.intro (vp_in_iff.mpr (by decide +kernel)) ?_
  refine nm_e ?_
  refine And.intro (vp_in_iff.mpr (by decide +kernel)) ?_
  refine nm_e ?_
  refine And.intro (vp_in_iff.mpr (by decide +kernel)) ?_
  refine nm_e ?_
  refine nm_r (e' := (1 : Int32)) (by decide +kernel) ?_
  refine br_f (by decide +kernel) ?_
  refine And.intro (vp_in_iff.mpr (by decide +kernel)) ?_
  refine nm_e ?_
  refine And.intro (vp_in_iff.mpr (by decide +kernel)) ?_
  refine nm_e ?_
  refine And.intro (vp_in_iff.mpr (by decide +kernel)) ?_
  refine nm_e ?_
  refine And.intro (vp_in_iff.mpr (by decide +kernel)) ?_
  refine nm_e ?_
  refine And.intro (vp_in_iff.mpr (by decide +kernel)) ?_
  refine nm_e ?_
  refine nm_r (e' := (2 : Int32)) (by decide +kernel) ?_
  refine br_t (by decide +kernel) ?_
  refine nm_r (e' := (1 : Int32)) (by decide +kernel) ?_
  refine Exists.intro (20 : Nat) ?_
  refine br_f (by decide +kernel) ?_
  refine And.intro (vp_in_iff.mpr (by decide +kernel)) ?_
  refine nm_r (e' := (0 : Int32)) (by decide +kernel) ?_
  refine br_f (by decide +kernel) ?_
  refine Exists.intro (20 : Nat) ?_
  refine hv_leE 16 (by decide) (by decide) (vp_in_iff.mpr (by decide +kernel)) (by decide +kernel) ?_
  refine And.intro (vp_in_iff.mpr (by decide +kernel)) ?_
  refine nm_e ?_
  refine And.intro (vp_in_iff.mpr (by decide +kernel)) ?_
  refine And.intro (vp_in_iff.mpr (by decide +kernel)) ?_
  refine And.intro (vp_in_iff.mpr (by decide +kernel)) ?_
  refine nm_e ?_
  refine And.intro (vp_in_iff.mpr (by decide +kernel)) ?_
  refine And.intro (vp_in_iff.mpr (by decide +kernel)) ?_
  refine nm_e ?_
  refine And.intro (vp_in_iff.mpr (by decide +kernel)) ?_
  refine And.intro (vp_in_iff.mpr (by decide +kernel)) ?_
  refine nm_r (e' := (2 : Int32)) (by decide +kernel) ?_
  refine And.intro (vp_in_iff.mpr (by decide +kernel)) ?_
  refine nm_e ?_
  refine Exists.intro (20 : Nat) ?_
  refine br_f (by decide +kernel) ?_
  refine br_f (by decide +kernel) ?_
  refine And.intro (vp_in_iff.mpr (by decide +kernel)) ?_
  refine br_t (by decide +kernel) ?_
  refine Exists.intro (20 : Nat) ?_
  refine br_f (by decide +kernel) ?_
  refine And.intro (vp_in_iff.mpr (by decide +kernel)) ?_
  refine br_f (by decide +kernel) ?_
  refine And.intro (vp_in_iff.mpr (by decide +kernel)) ?_
  refine And.intro (vp_in_iff.mpr (by decide +kernel)) ?_
  refine br_t (by decide +kernel) ?_
  refine nm_r (e' := (-1 : Int32)) (by decide +kernel) ?_
  refine Exists.intro (20 : Nat) ?_
  refine br_t (by decide +kernel) ?_
  refine And.intro (vp_in_iff.mpr (by decide +kernel)) ?_
  refine And.intro (vp_in_iff.mpr (by decide +kernel)) ?_
  refine And.intro (vp_in_iff.mpr (by decide +kernel)) ?_
  refine br_t (by decide +kernel) ?_
  refine And.intro (vp_in_iff.mpr (by decide +kernel)) ?_
  refine nm_e ?_
  refine nm_r (e' := (2 : Int32)) (by decide +kernel) ?_
  refine br_t (by decide +kernel) ?_
  refine nm_r (e' := (0 : Int32)) (by decide +kernel) ?_
  refine br_t (by decide +kernel) ?_
  refine nm_e ?_
  refine Exists.intro (20 : Nat) ?_
  refine br_f (by decide +kernel) ?_
  refine And.intro (vp_in_iff.mpr (by decide +kernel)) ?_
  refine And.intro (vp_in_iff.mpr (by decide +kernel)) ?_
  refine br_t (by decide +kernel) ?_
  refine And.intro (vp_in_iff.mpr (by decide +kernel)) ?_
  refine And.intro (vp_in_iff.mpr (by decide +kernel)) ?_
  refine And.intro (vp_in_iff.mpr (by decide +kernel)) ?_
  refine nm_e ?_
  refine nm_r (e' := (2 : Int32)) (by decide +kernel) ?_
  refine br_t (by decide +kernel) ?_
  refine Exists.intro (20 : Nat) ?_
  refine br_f (by decide +kernel) ?_
  refine And.intro (vp_in_iff.mpr (by decide +kernel)) ?_
  refine nm_e ?_
  refine And.intro (vp_in_iff.mpr (by decide +kernel)) ?_
  refine nm_e ?_
  refine nm_r (e' := (1 : Int32)) (by decide +kernel) ?_
  refine br_f (by decide +kernel) ?_
  refine And.intro (vp_in_iff.mpr (by decide +kernel)) ?_
  refine nm_e ?_
  refine And.intro (vp_in_iff.mpr (by decide +kernel)) ?_
  refine nm_e ?_
  refine nm_r (e' := (2 : Int32)) (by decide +kernel) ?_
  refine br_t (by decide +kernel) ?_
  refine nm_r (e' := (1 : Int32)) (by decide +kernel) ?_
  refine Exists.intro (20 : Nat) ?_
  refine br_f (by decide +kernel) ?_
  refine And.intro (vp_in_iff.mpr (by decide +kernel)) ?_
  refine nm_r (e' := (0 : Int32)) (by decide +kernel) ?_
  refine And.intro (vp_in_iff.mpr (by decide +kernel)) ?_
  refine And.intro (vp_in_iff.mpr (by decide +kernel)) ?_
  refine nm_e ?_
  refine And.intro (vp_in_iff.mpr (by decide +kernel)) ?_
  refine And.intro (vp_in_iff.mpr (by decide +kernel)) ?_
  refine And.intro (vp_in_iff.mpr (by decide +kernel)) ?_
  refine nm_e ?_
  refine And.intro (vp_in_iff.mpr (by decide +kernel)) ?_
  refine nm_r (e' := (0 : Int32)) (by decide +kernel) ?_
  refine And.intro (vp_in_iff.mpr (by decide +kernel)) ?_
  refine And.intro (vp_in_iff.mpr (by decide +kernel)) ?_
  refine And.intro (vp_in_iff.mpr (by decide +kernel)) ?_
  refine nm_e ?_
  refine And.intro (vp_in_iff.mpr (by decide +kernel)) ?_
  refine And.intro (vp_in_iff.mpr (by decide +kernel)) ?_
  refine And.intro (vp_in_iff.mpr (by decide +kernel)) ?_
  refine nm_e ?_
  refine nm_r (e' := (0 : Int32)) (by decide +kernel) ?_
  refine br_t (by decide +kernel) ?_
  exact H _ _ _ _ _ _ _ _ _ _ _ _ _ _ _ _ _ _ (by decide +kernel) (by decide +kernel) (by decide +kernel) (hv_sumN X)
theorem hv_find_01 {post : St2 → Prop} {X Y : Int32} (H : ∀ (fr fm : Int32) (a1 a2 a3 a4 a5 a6 a7 a8 a9 a10 a11 a12 a13 a14 a15 a16 : Nat → Int32), a15 0 = 3 → a5 0 = 1 → a5 1 = 2 → a13 2 = 1 → a4 1 = 0 → a14 2 = 2 → a16 1 = X + Y → post (4, 3, fr, 1, fm, a1, a2, a3, a4, a5, a6, a7, a8, a9, a10, a11, a12, a13, a14, a15, a16)) : wpX_find post (4, 3, 1, 0, 0, upd (upd hv_z 0 X) 1 Y, upd hv_z 0 2, upd hv_z 1 1, hv_z, hv_z, hv_z, hv_z, hv_z, hv_z, hv_z, hv_z, hv_z, hv_z, hv_z, hv_z, hv_z) := by
  refine br_t (by decide +kernel) ?_
  refine Exists.intro (20 : Nat) ?_
  refine hv_w2 (n := 3) ?_
  refine br_t (by decide +kernel) ?_
  refine nm_e ?_
  refine And.intro (vp_in_iff.mpr (by decide +kernel)) ?_
  refine nm_e ?_
  refine And.intro (vp_in_iff.mpr (by decide +kernel)) ?_
  refine nm_e ?_
  refine And.intro (vp_in_iff.mpr (by decide +kernel)) ?_
  refine nm_e ?_
  refine nm_r (e' := (1 : Int32)) (by decide +kernel) ?_
  refine nm_e ?_
  refine Exists.intro (20 : Nat) ?_
  refine br_f (by decide +kernel) ?_
  refine br_f (by decide +kernel) ?_
  refine And.intro (vp_in_iff.mpr (by decide +kernel)) ?_
  refine nm_r (e' := (16 : Int32)) (by decide +kernel) ?_
  refine And.intro (vp_in_iff.mpr (by decide +kernel)) ?_
  refine hv_fuW (0 : Int32) (by decide +kernel) ?_
  refine br_t (by decide +kernel) ?_
  refine And.intro (vp_in_iff.mpr (by decide +kernel)) ?_
  refine And.intro (vp_in_iff.mpr (by decide +kernel)) ?_
  refine nm_e ?_
  refine And.intro (vp_in_iff.mpr (by decide +kernel)) ?_
  refine nm_e ?_
  refine And.intro (vp_in_iff.mpr (by decide +kernel)) ?_
  refine nm_e ?_
  refine nm_r (e' := (2 : Int32)) (by decide +kernel) ?_
  refine And.intro (vp_in_iff.mpr (by decide +kernel)) ?_
  refine nm_e ?_
  refine nm_r (e' := (2 : Int32)) (by decide +kernel) ?_
  refine nm_r (e' := (1 : Int32)) (by decide +kernel) ?_
  refine br_f (by decide +kernel) ?_
  refine br_f (by decide +kernel) ?_
  refine And.intro (vp_in_iff.mpr (by decide +kernel)) ?_
  refine nm_r (e' := (0 : Int32)) (by decide +kernel) ?_
  refine And.intro (vp_in_iff.mpr (by decide +kernel)) ?_
  refine hv_fuW (1 : Int32) (by decide +kernel) ?_
  refine br_t (by decide +kernel) ?_
  refine And.intro (vp_in_iff.mpr (by decide +kernel)) ?_
  refine And.intro (vp_in_iff.mpr (by decide +kernel)) ?_
  refine nm_e ?_
  refine And.intro (vp_in_iff.mpr (by decide +kernel)) ?_
  refine nm_e ?_
  refine And.intro (vp_in_iff.mpr (by decide +kernel)) ?_
  refine nm_e ?_
  refine nm_r (e' := (3 : Int32)) (by decide +kernel) ?_
  refine And.intro (vp_in_iff.mpr (by decide +kernel)) ?_
  refine nm_e ?_
  refine nm_r (e' := (3 : Int32)) (by decide +kernel) ?_
  refine nm_r (e' := (2 : Int32)) (by decide +kernel) ?_
  refine br_f (by decide +kernel) ?_
  refine br_f (by decide +kernel) ?_
  refine And.intro (vp_in_iff.mpr (by decide +kernel)) ?_
  refine nm_r (e' := (1 : Int32)) (by decide +kernel) ?_
  refine And.intro (vp_in_iff.mpr (by decide +kernel)) ?_
  refine hv_fuW (-1 : Int32) (by decide +kernel) ?_
  refine br_f (by decide +kernel) ?_
  refine nm_r (e' := (2 : Int32)) (by decide +kernel) ?_
  refine nm_r (e' := (3 : Int32)) (by decide +kernel) ?_
  refine br_f (by decide +kernel) ?_
  refine br_f (by decide +kernel) ?_
  refine And.intro (vp_in_iff.mpr (by decide +kernel)) ?_
  refine nm_r (e' := (0 : Int32)) (by decide +kernel) ?_
  refine And.intro (vp_in_iff.mpr (by decide +kernel)) ?_
  refine hv_fuW (-1 : Int32) (by decide +kernel) ?_
  refine br_f (by decide +kernel) ?_
  refine nm_r (e' := (1 : Int32)) (by decide +kernel) ?_
  refine nm_r (e' := (4 : Int32)) (by decide +kernel) ?_
  refine br_f (by decide +kernel) ?_
  refine br_f (by decide +kernel) ?_
  refine And.intro (vp_in_iff.mpr (by decide +kernel)) ?_
  refine nm_r (e' := (16 : Int32)) (by decide +kernel) ?_
  refine And.intro (vp_in_iff.mpr (by decide +kernel)) ?_
  refine hv_fuW (-1 : Int32) (by decide +kernel) ?_
  refine br_f (by decide +kernel) ?_
  refine nm_r (e' := (0 : Int32)) (by decide +kernel) ?_
  refine nm_r (e' := (5 : Int32)) (by decide +kernel) ?_
  refine br_f (by decide +kernel) ?_
  refine br_t (by decide +kernel) ?_
  refine Exists.intro (20 : Nat) ?_
  refine br_f (by decide +kernel) ?_
  refine And.intro (vp_in_iff.mpr (by decide +kernel)) ?_
  refine nm_e ?_
  refine And.intro (vp_in_iff.mpr (by decide +kernel)) ?_
  refine nm_e ?_
  refine And.intro (vp_in_iff.mpr (by decide +kernel)) ?_
  refine nm_e ?_
  refine And.intro (vp_in_iff.mpr (by decide +kernel)) ?_
  refine nm_e ?_
  refine And.intro (vp_in_iff.mpr (by decide +kernel)) ?_
  refine nm_e ?_
  refine nm_r (e' := (1 : Int32)) (by decide +kernel) ?_
  refine br_f (by decide +kernel) ?_
  refine And.intro (vp_in_iff.mpr (by decide +kernel)) ?_
  refine nm_e ?_
  refine And.intro (vp_in_iff.mpr (by decide +kernel)) ?_
  refine nm_e ?_
  refine And.intro (vp_in_iff.mpr (by decide +kernel)) ?_
  refine nm_e ?_
  refine And.intro (vp_in_iff.mpr (by decide +kernel)) ?_
  refine nm_e ?_
  refine And.intro (vp_in_iff.mpr (by decide +kernel)) ?_
  refine nm_e ?_
  refine nm_r (e' := (2 : Int32)) (by decide +kernel) ?_
  refine br_f (by decide +kernel) ?_
  refine And.intro (vp_in_iff.mpr (by decide +kernel)) ?_
  refine nm_e ?_
  refine And.intro (vp_in_iff.mpr (by decide +kernel)) ?_
  refine nm_e ?_
  refine And.intro (vp_in_iff.mpr (by decide +kernel)) ?_
  refine nm_e ?_
  refine And.intro (vp_in_iff.mpr (by decide +kernel)) ?_
  refine nm_e ?_
  refine And.intro (vp_in_iff.mpr (by decide +kernel)) ?_
  refine nm_e ?_
  refine nm_r (e' := (3 : Int32)) (by decide +kernel) ?_
  refine br_t (by decide +kernel) ?_
  refine nm_r (e' := (2 : Int32)) (by decide +kernel) ?_
  refine Exists.intro (20 : Nat) ?_
  refine br_f (by decide +kernel) ?_
  refine And.intro (vp_in_iff.mpr (by decide +kernel)) ?_
  refine nm_r (e' := (1 : Int32)) (by decide +kernel) ?_
  refine br_t (by decide +kernel) ?_
  refine Exists.intro (20 : Nat) ?_
  refine br_f (by decide +kernel) ?_
  refine And.intro (vp_in_iff.mpr (by decide +kernel)) ?_
  refine br_f (by decide +kernel) ?_
  refine br_f (by decide +kernel) ?_
  refine And.intro (vp_in_iff.mpr (by decide +kernel)) ?_
  refine br_f (by decide +kernel) ?_
  refine And.intro (vp_in_iff.mpr (by decide +kernel)) ?_
  refine And.intro (vp_in_iff.mpr (by decide +kernel)) ?_
  refine br_f (by decide +kernel) ?_
  refine And.intro (vp_in_iff.mpr (by decide +kernel)) ?_
  refine br_f (by decide +kernel) ?_
  refine And.intro (vp_in_iff.mpr (by decide +kernel)) ?_
  refine nm_r (e' := (1 : Int32)) (by decide +kernel) ?_
  refine nm_r (e' := (1 : Int32)) (by decide +kernel) ?_
  refine hv_leE 15 (by decide) (by decide) (vp_in_iff.mpr (by decide +kernel)) (by decide +kernel) ?_
  refine And.intro (vp_in_iff.mpr (by decide +kernel)) ?_
  refine nm_e ?_
  refine And.intro (vp_in_iff.mpr (by decide +kernel)) ?_
  refine And.intro (vp_in_iff.mpr (by decide +kernel)) ?_
  refine And.intro (vp_in_iff.mpr (by decide +kernel)) ?_
  refine nm_e ?_
  refine And.intro (vp_in_iff.mpr (by decide +kernel)) ?_
  refine And.intro (vp_in_iff.mpr (by decide +kernel)) ?_
  refine nm_e ?_
  refine And.intro (vp_in_iff.mpr (by decide +kernel)) ?_
  refine And.intro (vp_in_iff.mpr (by decide +kernel)) ?_
  refine nm_r (e' := (4 : Int32)) (by decide +kernel) ?_
  refine And.intro (vp_in_iff.mpr (by decide +kernel)) ?_
  refine nm_e ?_
  refine Exists.intro (20 : Nat) ?_
  refine br_f (by decide +kernel) ?_
  refine br_t (by decide +kernel) ?_
  refine nm_r (e' := (2 : Int32)) (by decide +kernel) ?_
  refine br_f (by decide +kernel) ?_
  refine br_f (by decide +kernel) ?_
  refine And.intro (vp_in_iff.mpr (by decide +kernel)) ?_
  refine br_t (by decide +kernel) ?_
  refine Exists.intro (20 : Nat) ?_
  refine br_f (by decide +kernel) ?_
  refine And.intro (vp_in_iff.mpr (by decide +kernel)) ?_
  refine br_f (by decide +kernel) ?_
  refine And.intro (vp_in_iff.mpr (by decide +kernel)) ?_
  refine And.intro (vp_in_iff.mpr (by decide +kernel)) ?_
  refine br_t (by decide +kernel) ?_
  refine nm_r (e' := (-1 : Int32)) (by decide +kernel) ?_
  refine Exists.intro (20 : Nat) ?_
  refine br_t (by decide +kernel) ?_
  refine And.intro (vp_in_iff.mpr (by decide +kernel)) ?_
  refine And.intro (vp_in_iff.mpr (by decide +kernel)) ?_
  refine And.intro (vp_in_iff.mpr (by decide +kernel)) ?_
  refine br_t (by decide +kernel) ?_
  refine And.intro (vp_in_iff.mpr (by decide +kernel)) ?_
  refine nm_e ?_
  refine nm_r (e' := (3 : Int32)) (by decide +kernel) ?_
  refine br_t (by decide +kernel) ?_
  refine nm_r (e' := (1 : Int32)) (by decide +kernel) ?_
  refine br_f (by decide +kernel) ?_
  refine And.intro (vp_in_iff.mpr (by decide +kernel)) ?_
  refine nm_r (e' := (0 : Int32)) (by decide +kernel) ?_
  refine br_f (by decide +kernel) ?_
  refine Exists.intro (20 : Nat) ?_
  refine hv_leE 16 (by decide) (by decide) (vp_in_iff.mpr (by decide +kernel)) (by decide +kernel) ?_
  refine And.intro (vp_in_iff.mpr (by decide +kernel)) ?_
  refine nm_e ?_
  refine And.intro (vp_in_iff.mpr (by decide +kernel)) ?_
  refine And.intro (vp_in_iff.mpr (by decide +kernel)) ?_
  refine And.intro (vp_in_iff.mpr (by decide +kernel)) ?_
  refine nm_e ?_
  refine And.intro (vp_in_iff.mpr (by decide +kernel)) ?_
  refine And.intro (vp_in_iff.mpr (by decide +kernel)) ?_
  refine nm_e ?_
  refine And.intro (vp_in_iff.mpr (by decide +kernel)) ?_
  refine And.intro (vp_in_iff.mpr (by decide +kernel)) ?_
  refine nm_r (e' := (2 : Int32)) (by decide +kernel) ?_
  refine And.intro (vp_in_iff.mpr (by decide +kernel)) ?_
  refine nm_e ?_
  refine Exists.intro (20 : Nat) ?_
  refine br_f (by decide +kernel) ?_
  refine br_f (by decide +kernel) ?_
  refine And.intro (vp_in_iff.mpr (by decide +kernel)) ?_
  refine br_t (by decide +kernel) ?_
  refine Exists.intro (20 : Nat) ?_
  refine br_f (by decide +kernel) ?_
  refine And.intro (vp_in_iff.mpr (by decide +kernel)) ?_
  refine br_f (by decide +kernel) ?_
  refine And.intro (vp_in_iff.mpr (by decide +kernel)) ?_
  refine And.intro (vp_in_iff.mpr (by decide +kernel)) ?_
  refine br_t (by decide +kernel) ?_
  refine nm_r (e' := (-1 : Int32)) (by decide +kernel) ?_
  refine Exists.intro (20 : Nat) ?_
  refine br_t (by decide +kernel) ?_
  refine And.intro (vp_in_iff.mpr (by decide +kernel)) ?_
  refine And.intro (vp_in_iff.mpr (by decide +kernel)) ?_
  refine And.intro (vp_in_iff.mpr (by decide +kernel)) ?_
  refine br_t (by decide +kernel) ?_
  refine And.intro (vp_in_iff.mpr (by decide +kernel)) ?_
  refine nm_e ?_
  refine nm_r (e' := (2 : Int32)) (by decide +kernel) ?_
  refine br_f (by decide +kernel) ?_
  refine br_t (by decide +kernel) ?_
  refine nm_r (e' := (3 : Int32)) (by decide +kernel) ?_
  refine br_t (by decide +kernel) ?_
  refine nm_r (e' := (0 : Int32)) (by decide +kernel) ?_
  refine br_t (by decide +kernel) ?_
  refine nm_e ?_
  refine Exists.intro (20 : Nat) ?_
  refine br_f (by decide +kernel) ?_
  refine And.intro (vp_in_iff.mpr (by decide +kernel)) ?_
  refine And.intro (vp_in_iff.mpr (by decide +kernel)) ?_
  refine br_t (by decide +kernel) ?_
  refine And.intro (vp_in_iff.mpr (by decide +kernel)) ?_
  refine And.intro (vp_in_iff.mpr (by decide +kernel)) ?_
  refine And.intro (vp_in_iff.mpr (by decide +kernel)) ?_
  refine nm_e ?_
  refine nm_r (e' := (2 : Int32)) (by decide +kernel) ?_
  refine br_f (by decide +kernel) ?_
  refine And.intro (vp_in_iff.mpr (by decide +kernel)) ?_
  refine And.intro (vp_in_iff.mpr (by decide +kernel)) ?_
  refine br_t (by decide +kernel) ?_
  refine And.intro (vp_in_iff.mpr (by decide +kernel)) ?_
  refine And.intro (vp_in_iff.mpr (by decide +kernel)) ?_
  refine And.intro (vp_in_iff.mpr (by decide +kernel)) ?_
  refine nm_e ?_
  refine nm_r (e' := (3 : Int32)) (by decide +kernel) ?_
  refine br_t (by decide +kernel) ?_
  refine Exists.intro (20 : Nat) ?_
  refine br_f (by decide +kernel) ?_
  refine And.intro (vp_in_iff.mpr (by decide +kernel)) ?_
  refine nm_e ?_
  refine And.intro (vp_in_iff.mpr (by decide +kernel)) ?_
  refine nm_e ?_
  refine nm_r (e' := (1 : Int32)) (by decide +kernel) ?_
  refine br_f (by decide +kernel) ?_
  refine And.intro (vp_in_iff.mpr (by decide +kernel)) ?_
  refine nm_e ?_
  refine And.intro (vp_in_iff.mpr (by decide +kernel)) ?_
  refine nm_e ?_
  refine nm_r (e' := (2 : Int32)) (by decide +kernel) ?_
  refine br_f (by decide +kernel) ?_
  refine And.intro (vp_in_iff.mpr (by decide +kernel)) ?_
  refine nm_e ?_
  refine And.intro (vp_in_iff.mpr (by decide +kernel)) ?_
  refine nm_e ?_
  refine nm_r (e' := (3 : Int32)) (by decide +kernel) ?_
  refine br_t (by decide +kernel) ?_
  refine nm_r (e' := (2 : Int32)) (by decide +kernel) ?_
  refine Exists.intro (20 : Nat) ?_
  refine br_f (by decide +kernel) ?_
  refine And.intro (vp_in_iff.mpr (by decide +kernel)) ?_
  refine nm_r (e' := (1 : Int32)) (by decide +kernel) ?_
  refine And.intro (vp_in_iff.mpr (by decide +kernel)) ?_
  refine And.intro (vp_in_iff.mpr (by decide +kernel)) ?_
  refine nm_e ?_
  refine And.intro (vp_in_iff.mpr (by decide +kernel)) ?_
  refine And.intro (vp_in_iff.mpr (by decide +kernel)) ?_
  refine And.intro (vp_in_iff.mpr (by decide +kernel)) ?_
  refine nm_e ?_
  refine And.intro (vp_in_iff.mpr (by decide +kernel)) ?_
  refine nm_r (e' := (1 : Int32)) (by decide +kernel) ?_
  refine And.intro (vp_in_iff.mpr (by decide +kernel)) ?_
  refine And.intro (vp_in_iff.mpr (by decide +kernel)) ?_
  refine And.intro (vp_in_iff.mpr (by decide +kernel)) ?_
  refine nm_e ?_
  refine And.intro (vp_in_iff.mpr (by decide +kernel)) ?_
  refine And.intro (vp_in_iff.mpr (by decide +kernel)) ?_
  refine And.intro (vp_in_iff.mpr (by decide +kernel)) ?_
  refine nm_e ?_
  refine nm_r (e' := (1 : Int32)) (by decide +kernel) ?_
  refine br_f (by decide +kernel) ?_
  refine And.intro (vp_in_iff.mpr (by decide +kernel)) ?_
  refine nm_r (e' := (0 : Int32)) (by decide +kernel) ?_
  refine And.intro (vp_in_iff.mpr (by decide +kernel)) ?_
  refine And.intro (vp_in_iff.mpr (by decide +kernel)) ?_
  refine nm_e ?_
  refine And.intro (vp_in_iff.mpr (by decide +kernel)) ?_
  refine And.intro (vp_in_iff.mpr (by decide +kernel)) ?_
  refine And.intro (vp_in_iff.mpr (by decide +kernel)) ?_
  refine nm_e ?_
  refine And.intro (vp_in_iff.mpr (by decide +kernel)) ?_
  refine nm_r (e' := (0 : Int32)) (by decide +kernel) ?_
  refine And.intro (vp_in_iff.mpr (by decide +kernel)) ?_
  refine And.intro (vp_in_iff.mpr (by decide +kernel)) ?_
  refine And.intro (vp_in_iff.mpr (by decide +kernel)) ?_
  refine nm_e ?_
  refine And.intro (vp_in_iff.mpr (by decide +kernel)) ?_
  refine And.intro (vp_in_iff.mpr (by decide +kernel)) ?_
  refine And.intro (vp_in_iff.mpr (by decide +kernel)) ?_
  refine nm_e ?_
  refine nm_r (e' := (0 : Int32)) (by decide +kernel) ?_
  refine br_t (by decide +kernel) ?_
  exact H _ _ _ _ _ _ _ _ _ _ _ _ _ _ _ _ _ _ (by decide +kernel) (by decide +kernel) (by decide +kernel) (by decide +kernel) (by decide +kernel) (by decide +kernel) (hv_sumB X Y)
end
section
section
variable {fr fk fm : Int32} {a1 a2 a3 a4 a5 a6 a7 a8 a9 a10 a11 a12 a13 a14 a15 a16 : Nat → Int32}
theorem hv_hasG {post : Int32 → Prop} {p : Int32} (hp : p = 0 ∨ p = 1) (h : post 1) : wpX_has post (4, 3, fr, fk, fm, a1, a2, a3, a4, a5, a6, a7, a8, a9, a10, a11, a12, a13, a14, a15, a16) p := by
  rcases hp with rfl | rfl
  · exact br_f (by decide +kernel) (br_f (by decide +kernel) (br_f (by decide +kernel) h))
  · exact br_f (by decide +kernel) (br_f (by decide +kernel) (br_f (by decide +kernel) h))
theorem hv_hasB {post : Int32 → Prop} {p : Int32} (h0 : ¬ p = 0) (h1 : ¬ p = 1) (h : post 0) : wpX_has post (4, 3, fr, fk, fm, a1, a2, a3, a4, a5, a6, a7, a8, a9, a10, a11, a12, a13, a14, a15, a16) p := by
  rcases pk_ix p (n := 4) (by decide) with z | z | ⟨j, hj, e⟩
  · exact br_t z h
  · exact br_c (fun _ => h) (fun _ => br_t z h)
  · have hj' : j = 0 ∨ j = 1 ∨ j = 2 ∨ j = 3 := by omega
    rcases hj' with rfl | rfl | rfl | rfl
    · exact absurd e h0
    · exact absurd e h1
    · subst e
      exact br_f (by decide +kernel) (br_f (by decide +kernel) (br_t (by decide +kernel) h))
    · subst e
      exact br_f (by decide +kernel) (br_f (by decide +kernel) (br_t (by decide +kernel) h))
theorem hv_num {post : Int32 → St2 → Prop} {p : Int32} {q : Nat} (v : Int32) (hp : p = 0 ∨ p = 1) (hq : p = nI q) (hq' : q < 17) (hv : a5 q = v) (h : post v (4, 3, fr, 1, fm, a1, a2, a3, a4, a5, a6, a7, a8, a9, a10, a11, a12, a13, a14, a15, a16)) : wpX_numberOf post (4, 3, fr, 1, fm, a1, a2, a3, a4, a5, a6, a7, a8, a9, a10, a11, a12, a13, a14, a15, a16) p := by
  have e : a5 p.toNatClampNeg = v := by rw [hq, nI_clamp (by omega), hv]
  unfold wpX_numberOf
  dsimp only
  refine hv_hasG hp ?_
  refine br_f (by decide +kernel) ?_
  refine br_f (by decide +kernel) ?_
  refine And.intro (pk_in q 17 hq' hq) ?_
  show post (a5 p.toNatClampNeg) _
  rw [e]
  exact h
theorem hv_keeperN {post : Int32 → St2 → Prop} (h5 : a5 1 = -1) (h : post (-2) (4, 3, fr, 1, fm, a1, a2, a3, a4, a5, a6, a7, a8, a9, a10, a11, a12, a13, a14, a15, a16)) : wpX_keeper post (4, 3, fr, 1, fm, a1, a2, a3, a4, a5, a6, a7, a8, a9, a10, a11, a12, a13, a14, a15, a16) 1 := by
  unfold wpX_keeper
  dsimp only
  refine hv_num (q := 1) (-1) (Or.inr rfl) rfl (by decide) h5 ?_
  refine br_f (by decide +kernel) ?_
  exact h
theorem hv_keeperB {post : Int32 → St2 → Prop} (h5 : a5 1 = 2) (h13 : a13 2 = 1) (h4 : a4 1 = 0) (h : post 0 (4, 3, fr, 1, fm, a1, a2, a3, a4, a5, a6, a7, a8, a9, a10, a11, a12, a13, a14, a15, a16)) : wpX_keeper post (4, 3, fr, 1, fm, a1, a2, a3, a4, a5, a6, a7, a8, a9, a10, a11, a12, a13, a14, a15, a16) 1 := by
  have e13 : a13 (2 : Int32).toNatClampNeg = 1 := h13
  have e4 : a4 (1 : Int32).toNatClampNeg = 0 := h4
  unfold wpX_keeper
  dsimp only
  refine hv_num (q := 1) (2) (Or.inr rfl) rfl (by decide) h5 ?_
  refine br_t (by decide +kernel) ?_
  refine And.intro (pk_in 2 17 (by decide)) ?_
  dsimp only
  rw [e13]
  refine br_f (by decide +kernel) ?_
  refine And.intro (pk_in 1 17 (by decide)) ?_
  dsimp only
  rw [e4]
  exact h
theorem hv_retained {post : Int32 → St2 → Prop} {R : Int32} (h5 : a5 0 = 1) (h16 : a16 1 = R) (h : post R (4, 3, fr, 1, fm, a1, a2, a3, a4, a5, a6, a7, a8, a9, a10, a11, a12, a13, a14, a15, a16)) : wpX_retained post (4, 3, fr, 1, fm, a1, a2, a3, a4, a5, a6, a7, a8, a9, a10, a11, a12, a13, a14, a15, a16) 0 := by
  have e16 : a16 (1 : Int32).toNatClampNeg = R := h16
  unfold wpX_retained
  dsimp only
  refine hv_num (q := 0) (1) (Or.inl rfl) rfl (by decide) h5 ?_
  refine br_t (by decide +kernel) ?_
  refine And.intro (pk_in 1 17 (by decide)) ?_
  dsimp only
  rw [e16]
  exact h
theorem hv_depthN {post : Int32 → St2 → Prop} (h5 : a5 1 = -1) (h : post (-2) (4, 3, fr, 1, fm, a1, a2, a3, a4, a5, a6, a7, a8, a9, a10, a11, a12, a13, a14, a15, a16)) : wpX_depth post (4, 3, fr, 1, fm, a1, a2, a3, a4, a5, a6, a7, a8, a9, a10, a11, a12, a13, a14, a15, a16) 1 := by
  unfold wpX_depth
  dsimp only
  refine hv_num (q := 1) (-1) (Or.inr rfl) rfl (by decide) h5 ?_
  refine br_f (by decide +kernel) ?_
  exact h
theorem hv_depthB {post : Int32 → St2 → Prop} (h5 : a5 1 = 2) (h14 : a14 2 = 2) (h : post 1 (4, 3, fr, 1, fm, a1, a2, a3, a4, a5, a6, a7, a8, a9, a10, a11, a12, a13, a14, a15, a16)) : wpX_depth post (4, 3, fr, 1, fm, a1, a2, a3, a4, a5, a6, a7, a8, a9, a10, a11, a12, a13, a14, a15, a16) 1 := by
  have e14 : a14 (2 : Int32).toNatClampNeg = 2 := h14
  unfold wpX_depth
  dsimp only
  refine hv_num (q := 1) (2) (Or.inr rfl) rfl (by decide) h5 ?_
  refine br_t (by decide +kernel) ?_
  refine And.intro (pk_in 2 17 (by decide)) ?_
  dsimp only
  rw [e14]
  exact h
theorem hv_commonN {post : Int32 → St2 → Prop} (h50 : a5 0 = 1) (h5 : a5 1 = -1) (h : post (-2) (4, 3, fr, 1, fm, a1, a2, a3, a4, a5, a6, a7, a8, a9, a10, a11, a12, a13, a14, a15, a16)) : wpX_common post (4, 3, fr, 1, fm, a1, a2, a3, a4, a5, a6, a7, a8, a9, a10, a11, a12, a13, a14, a15, a16) 0 1 := by
  unfold wpX_common
  dsimp only
  refine hv_num (q := 0) (1) (Or.inl rfl) rfl (by decide) h50 ?_
  refine hv_num (q := 1) (-1) (Or.inr rfl) rfl (by decide) h5 ?_
  refine br_f (by decide +kernel) ?_
  refine br_f (by decide +kernel) ?_
  exact h
theorem hv_commonB {post : Int32 → St2 → Prop} (h50 : a5 0 = 1) (h5 : a5 1 = 2) (h13 : a13 2 = 1) (h4 : a4 1 = 0) (h : post 0 (4, 3, fr, 1, fm, a1, a2, a3, a4, a5, a6, a7, a8, a9, a10, a11, a12, a13, a14, a15, a16)) : wpX_common post (4, 3, fr, 1, fm, a1, a2, a3, a4, a5, a6, a7, a8, a9, a10, a11, a12, a13, a14, a15, a16) 0 1 := by
  have e13 : a13 (2 : Int32).toNatClampNeg = 1 := h13
  have e4 : a4 (1 : Int32).toNatClampNeg = 0 := h4
  unfold wpX_common
  dsimp only
  refine hv_num (q := 0) (1) (Or.inl rfl) rfl (by decide) h50 ?_
  refine hv_num (q := 1) (2) (Or.inr rfl) rfl (by decide) h5 ?_
  refine br_f (by decide +kernel) ?_
  refine br_t (by decide +kernel) ?_
  refine Exists.intro 5 ?_
  refine br_f (by decide +kernel) ?_
  refine br_f (by decide +kernel) ?_
  refine br_t (by decide +kernel) ?_
  refine And.intro (pk_in 2 17 (by decide)) ?_
  refine nm_r e13 (nm_r (e' := (1 : Int32)) (by decide +kernel) ?_)
  refine br_f (by decide +kernel) ?_
  refine br_t (by decide +kernel) ?_
  refine br_f (by decide +kernel) ?_
  refine And.intro (pk_in 1 17 (by decide)) ?_
  dsimp only
  rw [e4]
  exact h
end
theorem hv_make1 {post : Int32 → St2 → Prop} {t : Nat} (h1 : 1 ≤ t) (h2 : t ≤ 100) (h : post 0 (4, 1, 0, 0, 0, upd hv_z 0 (nI t), hv_z, hv_z, hv_z, hv_z, hv_z, hv_z, hv_z, hv_z, hv_z, hv_z, hv_z, hv_z, hv_z, hv_z, hv_z)) : wpX_make post (4, 0, 0, 0, 0, hv_z, hv_z, hv_z, hv_z, hv_z, hv_z, hv_z, hv_z, hv_z, hv_z, hv_z, hv_z, hv_z, hv_z, hv_z, hv_z) (nI t) := by
  refine pk_lt t 1 (fun z => absurd z (by omega)) (fun _ => pk_le t 100 (fun _ => Exists.intro 5 ?_) (fun z => absurd z (by omega)))
  refine br_f (by decide +kernel) ?_
  refine br_f (by decide +kernel) (br_f (by decide +kernel) (br_t (by decide +kernel) ?_))
  refine br_t (by decide +kernel) (nm_r (e' := (1 : Int32)) (by decide +kernel) (nm_r (e' := (0 : Int32)) (by decide +kernel) ?_))
  refine And.intro (pk_in 0 16 (by decide)) (nm_r (e' := upd hv_z 0 (nI t)) (by rw [hv_sz t (by omega)]; rfl) ?_)
  refine And.intro (pk_in 0 17 (by decide)) (nm_r (hv_z0 _) ?_)
  refine And.intro (pk_in 0 16 (by decide)) (nm_r (hv_z0 _) ?_)
  exact h
theorem hv_make2 {post : Int32 → St2 → Prop} {t : Nat} {X : Int32} (h1 : 1 ≤ t) (h2 : t ≤ 100) (h : post 1 (4, 3, 0, 0, 0, upd (upd hv_z 0 X) 1 (nI t), hv_z, hv_z, hv_z, hv_z, hv_z, hv_z, hv_z, hv_z, hv_z, hv_z, hv_z, hv_z, hv_z, hv_z, hv_z)) : wpX_make post (4, 1, 0, 0, 0, upd hv_z 0 X, hv_z, hv_z, hv_z, hv_z, hv_z, hv_z, hv_z, hv_z, hv_z, hv_z, hv_z, hv_z, hv_z, hv_z, hv_z) (nI t) := by
  refine pk_lt t 1 (fun z => absurd z (by omega)) (fun _ => pk_le t 100 (fun _ => Exists.intro 5 ?_) (fun z => absurd z (by omega)))
  refine br_f (by decide +kernel) ?_
  refine br_f (by decide +kernel) (br_f (by decide +kernel) (br_f (by decide +kernel) ?_))
  refine br_f (by decide +kernel) (nm_r (e' := (1 : Int32)) (by decide +kernel) ?_)
  refine br_f (by decide +kernel) ?_
  refine br_f (by decide +kernel) (br_f (by decide +kernel) (br_t (by decide +kernel) ?_))
  refine br_t (by decide +kernel) (nm_r (e' := (3 : Int32)) (by decide +kernel) (nm_r (e' := (0 : Int32)) (by decide +kernel) ?_))
  refine And.intro (pk_in 1 16 (by decide)) (nm_r (e' := upd (upd hv_z 0 X) 1 (nI t)) (by rw [hv_sz t (by omega)]; rfl) ?_)
  refine And.intro (pk_in 1 17 (by decide)) (nm_r (hv_z0 _) ?_)
  refine And.intro (pk_in 1 16 (by decide)) (nm_r (hv_z0 _) ?_)
  exact h
section
variable {a1 : Nat → Int32}
theorem hv_setRoot {post : Int32 → St2 → Prop} (h : post 1 (4, 3, 1, 0, 0, a1, hv_z, hv_z, hv_z, hv_z, hv_z, hv_z, hv_z, hv_z, hv_z, hv_z, hv_z, hv_z, hv_z, hv_z, hv_z)) : wpX_setRoot post (4, 3, 0, 0, 0, a1, hv_z, hv_z, hv_z, hv_z, hv_z, hv_z, hv_z, hv_z, hv_z, hv_z, hv_z, hv_z, hv_z, hv_z, hv_z) 0 1 := by
  unfold wpX_setRoot
  dsimp only
  refine hv_hasG (Or.inl rfl) ?_
  refine br_f (by decide +kernel) ?_
  refine br_f (by decide +kernel) ?_
  refine nm_r (e' := (1 : Int32)) (by decide +kernel) ?_
  exact h
theorem hv_referB {post : Int32 → St2 → Prop} {p q : Int32} (hb : ¬ ((p = 0 ∨ p = 1) ∧ (q = 0 ∨ q = 1))) (h : post 0 (4, 3, 1, 0, 0, a1, hv_z, hv_z, hv_z, hv_z, hv_z, hv_z, hv_z, hv_z, hv_z, hv_z, hv_z, hv_z, hv_z, hv_z, hv_z)) : wpX_refer post (4, 3, 1, 0, 0, a1, hv_z, hv_z, hv_z, hv_z, hv_z, hv_z, hv_z, hv_z, hv_z, hv_z, hv_z, hv_z, hv_z, hv_z, hv_z) p q := by
  unfold wpX_refer
  dsimp only
  by_cases hp : p = 0 ∨ p = 1
  · have hq : ¬ (q = 0 ∨ q = 1) := fun z => hb ⟨hp, z⟩
    refine hv_hasG hp ?_
    refine br_f (by decide +kernel) ?_
    refine hv_hasB (fun z => hq (Or.inl z)) (fun z => hq (Or.inr z)) ?_
    refine br_t (by decide +kernel) ?_
    exact h
  · refine hv_hasB (fun z => hp (Or.inl z)) (fun z => hp (Or.inr z)) ?_
    refine br_t (by decide +kernel) ?_
    exact h
theorem hv_refer00 {post : Int32 → St2 → Prop} (h : post 1 (4, 3, 1, 0, 0, a1, upd hv_z 0 1, upd hv_z 0 1, hv_z, hv_z, hv_z, hv_z, hv_z, hv_z, hv_z, hv_z, hv_z, hv_z, hv_z, hv_z, hv_z)) : wpX_refer post (4, 3, 1, 0, 0, a1, hv_z, hv_z, hv_z, hv_z, hv_z, hv_z, hv_z, hv_z, hv_z, hv_z, hv_z, hv_z, hv_z, hv_z, hv_z) 0 0 := by
  unfold wpX_refer
  dsimp only
  refine hv_hasG (Or.inl rfl) ?_
  refine br_f (by decide +kernel) ?_
  refine hv_hasG (Or.inl rfl) ?_
  refine br_f (by decide +kernel) ?_
  refine And.intro (pk_in 0 17 (by decide)) ?_
  refine And.intro (pk_in 0 17 (by decide)) ?_
  refine nm_r (e' := upd hv_z 0 1) (by rfl) ?_
  refine And.intro (pk_in 0 16 (by decide)) ?_
  refine And.intro (pk_in 0 16 (by decide)) ?_
  refine nm_r (e' := upd hv_z 0 1) (by rfl) ?_
  exact h
theorem hv_refer01 {post : Int32 → St2 → Prop} (h : post 1 (4, 3, 1, 0, 0, a1, upd hv_z 0 2, upd hv_z 1 1, hv_z, hv_z, hv_z, hv_z, hv_z, hv_z, hv_z, hv_z, hv_z, hv_z, hv_z, hv_z, hv_z)) : wpX_refer post (4, 3, 1, 0, 0, a1, hv_z, hv_z, hv_z, hv_z, hv_z, hv_z, hv_z, hv_z, hv_z, hv_z, hv_z, hv_z, hv_z, hv_z, hv_z) 0 1 := by
  unfold wpX_refer
  dsimp only
  refine hv_hasG (Or.inl rfl) ?_
  refine br_f (by decide +kernel) ?_
  refine hv_hasG (Or.inr rfl) ?_
  refine br_f (by decide +kernel) ?_
  refine And.intro (pk_in 0 17 (by decide)) ?_
  refine And.intro (pk_in 0 17 (by decide)) ?_
  refine nm_r (e' := upd hv_z 0 2) (by rfl) ?_
  refine And.intro (pk_in 1 16 (by decide)) ?_
  refine And.intro (pk_in 1 16 (by decide)) ?_
  refine nm_r (e' := upd hv_z 1 1) (by rfl) ?_
  exact h
theorem hv_refer10 {post : Int32 → St2 → Prop} (h : post 1 (4, 3, 1, 0, 0, a1, upd hv_z 1 1, upd hv_z 0 2, hv_z, hv_z, hv_z, hv_z, hv_z, hv_z, hv_z, hv_z, hv_z, hv_z, hv_z, hv_z, hv_z)) : wpX_refer post (4, 3, 1, 0, 0, a1, hv_z, hv_z, hv_z, hv_z, hv_z, hv_z, hv_z, hv_z, hv_z, hv_z, hv_z, hv_z, hv_z, hv_z, hv_z) 1 0 := by
  unfold wpX_refer
  dsimp only
  refine hv_hasG (Or.inr rfl) ?_
  refine br_f (by decide +kernel) ?_
  refine hv_hasG (Or.inl rfl) ?_
  refine br_f (by decide +kernel) ?_
  refine And.intro (pk_in 1 17 (by decide)) ?_
  refine And.intro (pk_in 1 17 (by decide)) ?_
  refine nm_r (e' := upd hv_z 1 1) (by rfl) ?_
  refine And.intro (pk_in 0 16 (by decide)) ?_
  refine And.intro (pk_in 0 16 (by decide)) ?_
  refine nm_r (e' := upd hv_z 0 2) (by rfl) ?_
  exact h
theorem hv_refer11 {post : Int32 → St2 → Prop} (h : post 1 (4, 3, 1, 0, 0, a1, upd hv_z 1 2, upd hv_z 1 2, hv_z, hv_z, hv_z, hv_z, hv_z, hv_z, hv_z, hv_z, hv_z, hv_z, hv_z, hv_z, hv_z)) : wpX_refer post (4, 3, 1, 0, 0, a1, hv_z, hv_z, hv_z, hv_z, hv_z, hv_z, hv_z, hv_z, hv_z, hv_z, hv_z, hv_z, hv_z, hv_z, hv_z) 1 1 := by
  unfold wpX_refer
  dsimp only
  refine hv_hasG (Or.inr rfl) ?_
  refine br_f (by decide +kernel) ?_
  refine hv_hasG (Or.inr rfl) ?_
  refine br_f (by decide +kernel) ?_
  refine And.intro (pk_in 1 17 (by decide)) ?_
  refine And.intro (pk_in 1 17 (by decide)) ?_
  refine nm_r (e' := upd hv_z 1 2) (by rfl) ?_
  refine And.intro (pk_in 1 16 (by decide)) ?_
  refine And.intro (pk_in 1 16 (by decide)) ?_
  refine nm_r (e' := upd hv_z 1 2) (by rfl) ?_
  exact h
end
end
section
theorem hv_init {post : St2 → Prop} (h : post (4, 0, 0, 0, 0, hv_z, hv_z, hv_z, hv_z, hv_z, hv_z, hv_z, hv_z, hv_z, hv_z, hv_z, hv_z, hv_z, hv_z, hv_z, hv_z)) : wpX_init post 100 1000 (0, 0, 0, 0, 0) 4 := by
  unfold wpX_init
  dsimp only
  iterate 32 refine And.intro (by decide) ?_
  exact br_t (by decide +kernel) (br_t (by decide +kernel) h)
theorem hv_01 {p : Int32} (h0 : ¬ p < 0) (h1 : ¬ 1 < p) : p = 0 ∨ p = 1 := by
  obtain ⟨j, hj, e⟩ := nI_of2 (M := 1) (n := 1) (by decide) h0 (Int32.not_lt.mp h1)
  have hj' : j = 0 ∨ j = 1 := by omega
  rcases hj' with rfl | rfl
  · exact Or.inl e
  · exact Or.inr e
theorem hv_endN {mc ms kc ks : Nat} {p q x y g : Int32} (hn : ¬ (p = 0 ∧ q = 1)) : wL_lawOf_128 (fun r _ => r = 1) mc ms p q x y g 1 (-2) x (-2) (-2) g kc ks := by
  have t : wL_lawOf_144 (fun r _ => r = 1) mc ms x y g 1 (-2) x (-2) (-2) g 0 kc ks :=
    br_t rfl (br_t rfl (br_t rfl (br_t rfl (br_t rfl (br_t rfl (br_t rfl (br_t rfl (br_t rfl (br_t rfl (br_t rfl rfl))))))))))
  exact br_c (fun a => br_c (fun b => absurd (And.intro a b) hn) (fun _ => t)) (fun _ => t)
theorem hv_endB {mc ms kc ks : Nat} {x y : Int32} : wL_lawOf_128 (fun r _ => r = 1) mc ms 0 1 x y 1 3 0 (x + y) 1 0 1 kc ks :=
  br_t rfl (br_t rfl (br_t rfl (br_f (by decide +kernel) (br_t rfl (br_f (by decide +kernel) (br_t rfl (br_f (by decide +kernel) (br_t rfl (br_f (by decide +kernel) (br_t rfl (br_f (by decide +kernel) (br_t rfl rfl))))))))))))
theorem hv_lawOf (p0 p1 p2 p3 : Int32) : wpL_lawOf (fun r _ => r = 1) 112 1792 () p0 p1 p2 p3 := by
  obtain ⟨t, t1, t2, et⟩ := hv_x p0
  obtain ⟨s, s1, s2, es⟩ := hv_x p1
  refine And.intro (by decide) (And.intro (by decide) (Exists.intro 100 (Exists.intro 1000 (And.intro (by decide) (And.intro (by decide) (hv_init ?_))))))
  refine And.intro (by decide) (nm_r et (And.intro (by decide) (nm_r es ?_)))
  refine hv_make1 t1 t2 (hv_make2 s1 s2 (hv_setRoot ?_))
  by_cases hg : (p2 = 0 ∨ p2 = 1) ∧ (p3 = 0 ∨ p3 = 1)
  · obtain ⟨h2, h3⟩ := hg
    rcases h2 with rfl | rfl
    · rcases h3 with rfl | rfl
      · refine hv_refer00 (hv_find_00 (fun fr fm a1 a2 a3 a4 a5 a6 a7 a8 a9 a10 a11 a12 a13 a14 a15 a16 h15 h50 h51 h16 => ?_))
        dsimp only
        rw [h15]
        refine hv_keeperN h51 (hv_retained h50 h16 (hv_depthN h51 (hv_commonN h50 h51 ?_)))
        exact br_f (by decide +kernel) (br_f (by decide +kernel) (br_f (by decide +kernel) (br_f (by decide +kernel) (hv_endN (by decide +kernel)))))
      · refine hv_refer01 (hv_find_01 (fun fr fm a1 a2 a3 a4 a5 a6 a7 a8 a9 a10 a11 a12 a13 a14 a15 a16 h15 h50 h51 h13 h4 h14 h16 => ?_))
        dsimp only
        rw [h15]
        refine hv_keeperB h51 h13 h4 (hv_retained h50 h16 (hv_depthB h51 h14 (hv_commonB h50 h51 h13 h4 ?_)))
        exact br_f (by decide +kernel) (br_f (by decide +kernel) (br_f (by decide +kernel) (br_f (by decide +kernel) hv_endB)))
    · rcases h3 with rfl | rfl
      · refine hv_refer10 (hv_find_10 (fun fr fm a1 a2 a3 a4 a5 a6 a7 a8 a9 a10 a11 a12 a13 a14 a15 a16 h15 h50 h51 h16 => ?_))
        dsimp only
        rw [h15]
        refine hv_keeperN h51 (hv_retained h50 h16 (hv_depthN h51 (hv_commonN h50 h51 ?_)))
        exact br_f (by decide +kernel) (br_f (by decide +kernel) (br_f (by decide +kernel) (br_f (by decide +kernel) (hv_endN (by decide +kernel)))))
      · refine hv_refer11 (hv_find_11 (fun fr fm a1 a2 a3 a4 a5 a6 a7 a8 a9 a10 a11 a12 a13 a14 a15 a16 h15 h50 h51 h16 => ?_))
        dsimp only
        rw [h15]
        refine hv_keeperN h51 (hv_retained h50 h16 (hv_depthN h51 (hv_commonN h50 h51 ?_)))
        exact br_f (by decide +kernel) (br_f (by decide +kernel) (br_f (by decide +kernel) (br_f (by decide +kernel) (hv_endN (by decide +kernel)))))
  · have hn : ¬ (p2 = 0 ∧ p3 = 1) := fun z => hg ⟨Or.inl z.1, Or.inr z.2⟩
    refine hv_referB hg (hv_find_no (fun fr fm a1 a2 a3 a4 a5 a6 a7 a8 a9 a10 a11 a12 a13 a14 a15 a16 h15 h50 h51 h16 => ?_))
    dsimp only
    rw [h15]
    refine hv_keeperN h51 (hv_retained h50 h16 (hv_depthN h51 (hv_commonN h50 h51 ?_)))
    exact br_c (fun _ => hv_endN hn) (fun c1 => br_c (fun _ => hv_endN hn) (fun c2 => br_c (fun _ => hv_endN hn) (fun c3 => br_c (fun _ => hv_endN hn) (fun c4 => absurd (And.intro (hv_01 c1 c2) (hv_01 c3 c4)) hg))))
theorem hv_cell {post : Int32 → Prop} {L : Nat} {xs : Nat → Int32} {u : St0} {p : Int32} (k : Nat) (hL : L ≤ 4) (H : ∀ r, post r) (hk : k < 2 ^ 31 := by decide) (hp : p = nI k := by rfl) : wpL_cellAt post L xs u p :=
  pk_le L k (fun _ => H _) (fun z => And.intro (pk_in k L z hp) (H _)) rfl hp (by omega) hk
theorem i_vc (xs : Nat → Int32) (L : Nat) (hL : L ≤ 4) : wpL_law (fun r => r = 1) L xs :=
  hv_cell 0 hL (fun r1 => hv_cell 1 hL (fun r2 => hv_cell 2 hL (fun r3 => hv_cell 3 hL (fun r4 => Exists.intro 112 (Exists.intro 1792 (And.intro (by decide) (And.intro (by decide) (hv_lawOf r1 r2 r3 r4))))))))
end
