section
/-- how many of the first x places of s are ones -/
def ds_cnt (s : Nat) : Nat → Nat
  | 0 => 0
  | x + 1 => ds_cnt s x + s / 2 ^ x % 2
/-- 0 or 1: whether there is one -/
def ds_mk : Nat → Nat
  | 0 => 0
  | _ + 1 => 1
/-- the lowest one of s, below 6 -/
def ds_low (s : Nat) : Nat := if s % 2 = 1 then 0 else if s / 2 % 2 = 1 then 1 else if s / 4 % 2 = 1 then 2 else if s / 8 % 2 = 1 then 3 else if s / 16 % 2 = 1 then 4 else 5
/-- how many solutions there are without constraints -/
def ds_pr (s : Nat → Nat) : Nat := ds_cnt (s 3) 6 * (ds_cnt (s 2) 6 * (ds_cnt (s 1) 6 * ds_cnt (s 0) 6))
theorem ds_c0 {s i : Nat} (h : s / 2 ^ i % 2 = 0) : ds_cnt s (i + 1) = ds_cnt s i := by
  show ds_cnt s i + s / 2 ^ i % 2 = ds_cnt s i
  rw [h]
  rfl
theorem ds_c1 {s i : Nat} (h : s / 2 ^ i % 2 = 1) : ds_cnt s (i + 1) = ds_cnt s i + 1 := by
  show ds_cnt s i + s / 2 ^ i % 2 = ds_cnt s i + 1
  rw [h]
theorem ds_mk0 {c : Nat} (h : c = 0) : ds_mk c = 0 := by
  rw [h]
  rfl
theorem ds_mk1 {c : Nat} (h : 0 < c) : ds_mk c = 1 := by
  cases c with
  | zero => exact absurd h (by decide)
  | succ c => rfl
theorem ds_cpos : ∀ s, s < 64 → 0 < s → 0 < ds_cnt s 6 := by decide +kernel
theorem ds_cle : ∀ s, s < 64 → ds_cnt s 6 ≤ 6 := by decide +kernel
theorem ds_bitc : ∀ s, s < 64 → ∀ x, x < 6 → (((nI s >>> (nI x &&& 31)) &&& 1) = 0 ↔ s / 2 ^ x % 2 = 0) := by decide +kernel
theorem ds_bit {A B : Prop} {y z : Int32} (s x : Nat) (hs : s < 64) (hx : x < 6) (hy : y = nI s) (hz : z = nI x) (f : s / 2 ^ x % 2 = 0 → A) (g : s / 2 ^ x % 2 = 1 → B) : (((y >>> (z &&& 31)) &&& 1) = 0 → A) ∧ (¬ ((y >>> (z &&& 31)) &&& 1) = 0 → B) := by
  subst hy hz
  refine ek_if (ds_bitc s hs x hx) f (fun h => g ?_)
  rcases Nat.mod_two_eq_zero_or_one (s / 2 ^ x) with z | z
  · exact absurd z h
  · exact z
theorem ds_nb : ∀ s, s < 64 → vp_nar .byte (nI s) = nI s := by decide +kernel
theorem ds_tb : ∀ s, s < 64 → (nI s).toInt8.toInt32 = nI s := by decide +kernel
theorem ds_sh : ∀ x, x < 6 → ((1 : Int32) <<< (nI x &&& 31)).toInt8.toInt32 = nI (2 ^ x) := by decide +kernel
theorem ds_p2 : ∀ x, x < 6 → 2 ^ x < 64 ∧ 0 < 2 ^ x ∧ ds_low (2 ^ x) = x := by decide +kernel
theorem ds_or : ∀ s, s < 64 → ∀ x, x < 6 → s / 2 ^ x % 2 = 1 → nI (s % 2 ^ x) ||| ((1 : Int32) <<< (nI x &&& 31)) = nI (s % 2 ^ (x + 1)) := by decide +kernel
theorem ds_or0 : ∀ s, s < 64 → ∀ x, x < 6 → s / 2 ^ x % 2 = 0 → s % 2 ^ (x + 1) = s % 2 ^ x := by decide +kernel
theorem ds_lo : ∀ s, s < 64 → 0 < s → ds_low s < 6 ∧ s / 2 ^ ds_low s % 2 = 1 ∧ ∀ j, j < ds_low s → s / 2 ^ j % 2 = 0 := by decide +kernel
theorem ds_ones : ∀ s, s < 64 → (((((nI s &&& 1) + ((nI s >>> ((1 : Int32) &&& 31)) &&& 1)) + ((nI s >>> ((2 : Int32) &&& 31)) &&& 1)) + ((nI s >>> ((3 : Int32) &&& 31)) &&& 1)) + ((nI s >>> ((4 : Int32) &&& 31)) &&& 1)) + ((nI s >>> ((5 : Int32) &&& 31)) &&& 1) = nI (ds_cnt s 6) := by decide +kernel
theorem ds_l0 : ∀ s, s < 64 → nI s &&& 1 = 1 → ds_low s = 0 := by decide +kernel
theorem ds_l1 : ∀ s, s < 64 → ¬ nI s &&& 1 = 1 → nI s &&& 2 = 2 → ds_low s = 1 := by decide +kernel
theorem ds_l2 : ∀ s, s < 64 → ¬ nI s &&& 1 = 1 → ¬ nI s &&& 2 = 2 → nI s &&& 4 = 4 → ds_low s = 2 := by decide +kernel
theorem ds_l3 : ∀ s, s < 64 → ¬ nI s &&& 1 = 1 → ¬ nI s &&& 2 = 2 → ¬ nI s &&& 4 = 4 → nI s &&& 8 = 8 → ds_low s = 3 := by decide +kernel
theorem ds_l4c : ∀ s, s < 64 → (¬ nI s &&& 1 = 1 ∧ ¬ nI s &&& 2 = 2 ∧ ¬ nI s &&& 4 = 4 ∧ ¬ nI s &&& 8 = 8) → (nI s &&& 16 = 16 → ds_low s = 4) ∧ (¬ nI s &&& 16 = 16 → ds_low s = 5) := by decide +kernel
theorem ds_l4 (s : Nat) (hs : s < 64) (h0 : ¬ nI s &&& 1 = 1) (h1 : ¬ nI s &&& 2 = 2) (h2 : ¬ nI s &&& 4 = 4) (h3 : ¬ nI s &&& 8 = 8) (h4 : nI s &&& 16 = 16) : ds_low s = 4 := (ds_l4c s hs ⟨h0, h1, h2, h3⟩).1 h4
theorem ds_l5 (s : Nat) (hs : s < 64) (h0 : ¬ nI s &&& 1 = 1) (h1 : ¬ nI s &&& 2 = 2) (h2 : ¬ nI s &&& 4 = 4) (h3 : ¬ nI s &&& 8 = 8) (h4 : ¬ nI s &&& 16 = 16) : ds_low s = 5 := (ds_l4c s hs ⟨h0, h1, h2, h3⟩).2 h4
theorem ds_p0 {s : Nat → Nat} {v : Nat} (hv : v < 4) (h : s v = 0) : ds_pr s = 0 := by
  have e : ds_cnt (s v) 6 = 0 := by rw [h]; rfl
  have hv' : v = 0 ∨ v = 1 ∨ v = 2 ∨ v = 3 := by omega
  unfold ds_pr
  rcases hv' with z | z | z | z <;> rw [z] at e <;> rw [e] <;> simp
theorem ds_pp {s : Nat → Nat} (h : ∀ j, j < 4 → s j < 64) (h0 : ∀ j, j < 4 → 0 < s j) : 0 < ds_pr s := by
  unfold ds_pr
  exact Nat.mul_pos (ds_cpos _ (h 3 (by decide)) (h0 3 (by decide))) (Nat.mul_pos (ds_cpos _ (h 2 (by decide)) (h0 2 (by decide))) (Nat.mul_pos (ds_cpos _ (h 1 (by decide)) (h0 1 (by decide))) (ds_cpos _ (h 0 (by decide)) (h0 0 (by decide)))))
theorem ds_pl {s : Nat → Nat} (h : ∀ j, j < 4 → s j < 64) : ds_pr s ≤ 1296 := by
  unfold ds_pr
  exact Nat.mul_le_mul (ds_cle _ (h 3 (by decide))) (Nat.mul_le_mul (ds_cle _ (h 2 (by decide))) (Nat.mul_le_mul (ds_cle _ (h 1 (by decide))) (ds_cle _ (h 0 (by decide)))))
/-- the domains of the law: S at place v, 63 elsewhere -/
def ds_dm (v S : Nat) : Nat → Nat := fun j => if j = v then S else 63
theorem ds_dv (v S : Nat) : ds_dm v S v = S := if_pos rfl
theorem ds_dn {v S j : Nat} (h : j ≠ v) : ds_dm v S j = 63 := if_neg h
theorem ds_d64 {v S : Nat} (hS : S < 64) : ∀ j, j < 4 → ds_dm v S j < 64 := by
  intro j _
  by_cases h : j = v
  · rw [h, ds_dv]; exact hS
  · rw [ds_dn h]; decide
theorem ds_dpr : ∀ v, v < 4 → ∀ S, S < 64 → nI (ds_pr (ds_dm v S)) = 216 * nI (ds_cnt S 6) := by decide +kernel
theorem ds_wpos {x : Int32} (h : ¬ x < 0) (h3 : ¬ (3 : Int32) < x) : ∃ v : Nat, v < 4 ∧ x = nI v := by
  obtain ⟨j, hj, e⟩ := nI_of2 (M := 3) (n := 3) rfl h (Int32.not_lt.mp h3)
  exact ⟨j, by omega, e⟩
theorem ds_spos {x : Int32} (h : ¬ x < 0) (h3 : ¬ (63 : Int32) < x) : ∃ v : Nat, v < 64 ∧ x = nI v := by
  obtain ⟨j, hj, e⟩ := nI_of2 (M := 63) (n := 63) rfl h (Int32.not_lt.mp h3)
  exact ⟨j, by omega, e⟩
theorem ds_kpos {x : Int32} (h : ¬ x < 0) (h3 : ¬ (8 : Int32) < x) : ∃ v : Nat, v < 9 ∧ x = nI v := by
  obtain ⟨j, hj, e⟩ := nI_of2 (M := 8) (n := 8) rfl h (Int32.not_lt.mp h3)
  exact ⟨j, by omega, e⟩
end
section
theorem ds_ms {post : Int32 → St2 → Prop} {fw fr fm ft fb fd fi : Int32} {a1 a2 a3 a4 a5 a6 a7 a8 a9 a10 a11 a12 a13 a14 a15 a16 a17 a18 : Nat → Int32} {p0 p1 p2 : Int32} (H : ∀ b17, post 1 (0, fw, fr, fm, ft, fb, fd, fi, a1, a2, a3, a4, a5, a6, a7, a8, a9, a10, a11, a12, a13, a14, a15, a16, b17, a18)) : wpX_moveStates post (0, fw, fr, fm, ft, fb, fd, fi, a1, a2, a3, a4, a5, a6, a7, a8, a9, a10, a11, a12, a13, a14, a15, a16, a17, a18) p0 p1 p2 :=
  pk_loop (fun n i t => wX_moveStates_3 post p0 p1 p2 n (nI i) 0 fw fr fm ft fb fd fi a1 a2 a3 a4 a5 a6 a7 a8 a9 a10 a11 a12 a13 a14 a15 a16 t a18) (fun _ _ => True) 10 0 a17 (by omega) trivial
    (fun n t _ => pk_le 10 10 (fun _ => H t) (fun z => absurd z (by omega)))
    (fun n i t hi _ hw => pk_le 10 i (fun z => absurd z (by omega)) (fun _ => ⟨pk_in i 10 hi, nm_e (br_t (nI_pos' (by omega)) (nm_r (nI_1 i) (hw _ trivial)))⟩))
theorem ds_aa {post : Int32 → Prop} {fw fr fm ft fb fd fi : Int32} {a1 a2 a3 a4 a5 a6 a7 a8 a9 a10 a11 a12 a13 a14 a15 a16 a17 a18 : Nat → Int32} (H : post 1) : wpX_allAccept post (0, fw, fr, fm, ft, fb, fd, fi, a1, a2, a3, a4, a5, a6, a7, a8, a9, a10, a11, a12, a13, a14, a15, a16, a17, a18) :=
  ⟨1, br_t (by decide) H⟩
theorem ds_f0 {post : Int32 → Prop} {fw fr fm ft fb fd fi : Int32} {a1 a2 a3 a4 a5 a6 a7 a8 a9 a10 a11 a12 a13 a14 a15 a16 a17 a18 : Nat → Int32} {p : Nat} (hp : p < 252) (H : post (nI p)) : wpX_findNode post (0, fw, fr, fm, ft, fb, fd, fi, a1, a2, a3, a4, a5, a6, a7, a8, a9, a10, a11, a12, a13, a14, a15, a16, a17, a18) (nI p) (nI 0) :=
  ⟨1, pk_le (p + 0) p (fun _ => by rw [nI_add]; exact H) (fun z => absurd z (by omega)) (hx := nI_add p 0)⟩
theorem ds_f1 {post : Int32 → Prop} {fw fr fm ft fb fd fi : Int32} {a1 a2 a3 a4 a5 a6 a7 a8 a9 a10 a11 a12 a13 a14 a15 a16 a17 a18 : Nat → Int32} {p : Nat} (hp : p < 252) (H : post (nI p)) : wpX_findNode post (0, fw, fr, fm, ft, fb, fd, fi, a1, a2, a3, a4, a5, a6, a7, a8, a9, a10, a11, a12, a13, a14, a15, a16, a17, a18) (nI p) (nI 1) :=
  ⟨2, pk_le (p + 1) p (fun z => absurd z (by omega)) (fun _ => ⟨1, br_t (by decide) (br_f (by decide) H)⟩) (hx := nI_add p 1)⟩
theorem ds_on {post : St2 → Prop} {fc fw fr fm ft fb fd fi : Int32} {a1 a2 a3 a4 a5 a6 a7 a8 a9 a10 a11 a12 a13 a14 a15 a16 a17 a18 : Nat → Int32} {p : Nat} (hp : p < 252) (H : ∀ b13 b15 b16, post (fc, fw, fr, fm, ft, fb, fd, fi, a1, a2, a3, a4, a5, a6, a7, a8, a9, a10, a11, a12, b13, upd a14 p 0, b15, b16, a17, a18)) : wpX_openNode post (fc, fw, fr, fm, ft, fb, fd, fi, a1, a2, a3, a4, a5, a6, a7, a8, a9, a10, a11, a12, a13, a14, a15, a16, a17, a18) (nI p) :=
  pk_loop (fun n i t => wX_openNode_2 post (nI p) fc fw fr fm ft fb fd fi n (nI i) a1 a2 a3 a4 a5 a6 a7 a8 a9 a10 a11 a12 t a14 a15 a16 a17 a18) (fun _ _ => True) 10 0 a13 (by omega) trivial
    (fun n t _ => pk_le 10 10 (fun _ => ⟨pk_in p 252 hp, nm_r (e' := upd a14 p 0) (by rw [nI_clamp (by omega)]) ⟨pk_in p 252 hp, nm_e ⟨pk_in p 252 hp, nm_e (H _ _ _)⟩⟩⟩) (fun z => absurd z (by omega)))
    (fun n i t hi _ hw => pk_le 10 i (fun z => absurd z (by omega)) (fun _ => ⟨pk_in i 10 hi, pk_in (10 * p + i) 2520 (by omega) (by rw [← nI_add, ← pk_mul]; rfl), nm_e (nm_r (nI_1 i) (hw _ trivial))⟩))
theorem ds_a55 {post : St2 → Prop} {fc fw fr fm ft fb fd fi : Int32} {a1 a2 a3 a4 a5 a6 a7 a8 a9 a10 a11 a12 a13 a14 a15 a16 a17 a18 : Nat → Int32} {p n : Nat} {z : Int32} (hp : p < 252) (hn : n < 252) (H : ∀ b15 b16, post (fc, fw, fr, fm, ft, fb, fd, fi, a1, a2, a3, a4, a5, a6, a7, a8, a9, a10, a11, a12, a13, a14, b15, b16, a17, a18)) : wX_addWays_55 post (nI p) (nI n) z fc fw fr fm ft fb fd fi a1 a2 a3 a4 a5 a6 a7 a8 a9 a10 a11 a12 a13 a14 a15 a16 a17 a18 :=
  ⟨pk_in p 252 hp, nm_e ⟨pk_in p 252 hp, pk_in n 252 hn, pk_in p 252 hp, nm_e (H _ _)⟩⟩
theorem ds_aw {post : St2 → Prop} {fc fw fr fm ft fb fd fi : Int32} {a1 a2 a3 a4 a5 a6 a7 a8 a9 a10 a11 a12 a13 a14 a15 a16 a17 a18 : Nat → Int32} {p n : Nat} {z : Int32} (hp : p < 252) (hn : n < 252) (H : ∀ b15 b16, post (fc, fw, fr, fm, ft, fb, fd, fi, a1, a2, a3, a4, a5, a6, a7, a8, a9, a10, a11, a12, a13, upd a14 p (a14 p + a14 n), b15, b16, a17, a18)) : wpX_addWays post (fc, fw, fr, fm, ft, fb, fd, fi, a1, a2, a3, a4, a5, a6, a7, a8, a9, a10, a11, a12, a13, a14, a15, a16, a17, a18) (nI p) (nI n) z :=
  ⟨pk_in p 252 hp, pk_in n 252 hn, pk_in p 252 hp, nm_r (e' := upd a14 p (a14 p + a14 n)) (by rw [nI_clamp (show p < 2 ^ 31 by omega), nI_clamp (show n < 2 ^ 31 by omega)]) ⟨pk_in n 252 hn, nm_e ⟨pk_in p 252 hp, br_c (fun _ => ⟨pk_in p 252 hp, br_c (fun _ => ds_a55 hp hn H) (fun _ => ⟨pk_in p 252 hp, nm_e (ds_a55 hp hn H)⟩)⟩) (fun _ => H _ _)⟩⟩⟩
theorem ds_82 {post : Int32 → St2 → Prop} {J6 J17 : Int32 → Int32 → Int32 → Int32 → Int32 → Int32 → Int32 → Int32 → Int32 → Int32 → (Nat → Int32) → (Nat → Int32) → (Nat → Int32) → (Nat → Int32) → (Nat → Int32) → (Nat → Int32) → (Nat → Int32) → (Nat → Int32) → (Nat → Int32) → (Nat → Int32) → (Nat → Int32) → (Nat → Int32) → (Nat → Int32) → (Nat → Int32) → (Nat → Int32) → (Nat → Int32) → (Nat → Int32) → (Nat → Int32) → Prop} {fc fw fr fm ft fb fd fi : Int32} {a1 a2 a3 a4 a5 a6 a7 a8 a9 a10 a11 a12 a13 a14 a15 a16 a17 a18 : Nat → Int32} {x2 x3 x4 x5 : Int32} {v p n i : Nat} (hv : v < 4) (hp : p < 252) (hn : n < 252)
    (H : ∀ b15 b16, J17 x5 (nI (i + 1)) fc fw fr fm ft fb fd fi a1 a2 a3 a4 a5 a6 a7 a8 a9 a10 a11 a12 a13 (upd a14 p (a14 p + a14 n)) b15 b16 a17 a18) : wX_nextLayer_82 post J6 J17 (nI v) x2 x3 x4 x5 (nI n) (nI i) (nI p) fc fw fr fm ft fb fd fi a1 a2 a3 a4 a5 a6 a7 a8 a9 a10 a11 a12 a13 a14 a15 a16 a17 a18 :=
  ⟨pk_in v 4 hv, ds_aw hp hn (fun b15 b16 => nm_r (nI_1 i) (H b15 b16))⟩
theorem ds_17 {post : Int32 → St2 → Prop} {J6 : Int32 → Int32 → Int32 → Int32 → Int32 → Int32 → Int32 → Int32 → Int32 → Int32 → (Nat → Int32) → (Nat → Int32) → (Nat → Int32) → (Nat → Int32) → (Nat → Int32) → (Nat → Int32) → (Nat → Int32) → (Nat → Int32) → (Nat → Int32) → (Nat → Int32) → (Nat → Int32) → (Nat → Int32) → (Nat → Int32) → (Nat → Int32) → (Nat → Int32) → (Nat → Int32) → (Nat → Int32) → (Nat → Int32) → Prop} {fw fr fm ft fb fd fi : Int32} {a1 a2 a3 a4 a5 a6 a7 a8 a9 a10 a11 a12 a18 : Nat → Int32} {x2 x3 : Int32} {v s n p w : Nat} (hv : v < 4) (hs : s < 64) (hn : n < 252) (hp : p < 252) (hnp : n ≠ p) (h6 : a6 v = nI s)
    (H : ∀ b13 b14 b15 b16 b17, (0 < ds_cnt s 6 → b14 p = nI (ds_cnt s 6 * w)) → J6 (nI (ds_mk (ds_cnt s 6))) (nI (n + 1)) 0 fw fr fm ft fb fd fi a1 a2 a3 a4 a5 a6 a7 a8 a9 a10 a11 a12 b13 b14 b15 b16 b17 a18) :
    ∀ (k i : Nat), i + k = 6 → ∀ (b13 b14 b15 b16 b17 : Nat → Int32), b14 n = nI w → (0 < ds_cnt s i → b14 p = nI (ds_cnt s i * w)) →
      wX_nextLayer_17 post J6 (nI v) x2 x3 (nI p) (nI n) (k + 1) (nI (ds_mk (ds_cnt s i))) (nI i) 0 fw fr fm ft fb fd fi a1 a2 a3 a4 a5 a6 a7 a8 a9 a10 a11 a12 b13 b14 b15 b16 b17 a18
  | 0, i, hi => fun b13 b14 b15 b16 b17 h1 h2 => by
    have e : i = 6 := by omega
    subst e
    exact pk_le 6 6 (fun _ => nm_r (nI_1 n) (H _ _ _ _ _ h2)) (fun z => absurd z (by omega))
  | k + 1, i, hi => fun b13 b14 b15 b16 b17 h1 h2 => by
    have ih := ds_17 (post := post) (x2 := x2) (x3 := x3) hv hs hn hp hnp h6 H k (i + 1) (by omega)
    refine pk_le 6 i (fun z => absurd z (by omega)) (fun _ => ⟨pk_in v 4 hv, ds_bit s i hs (by omega) (by rw [nI_clamp (by omega)]; exact h6) rfl (fun hb => nm_r (nI_1 i) ?_) (fun hb => ds_ms (fun c17 => br_f (by decide) ?_))⟩)
    · rw [ds_c0 hb] at ih
      exact ih _ _ _ _ _ h1 h2
    · rw [ds_c1 hb] at ih
      by_cases hc : ds_cnt s i = 0
      · rw [hc]
        rw [hc] at ih
        refine ds_f0 hp (br_t (by rw [ds_mk0 rfl, nI_add]; rfl) (nm_r (nI_1 0) (ds_on hp (fun c13 c15 c16 => ds_82 hv hp hn (fun d15 d16 => ih _ _ _ _ _ ?_ ?_)))))
        · rw [pk_un hnp, pk_un hnp]
          exact h1
        · intro _
          rw [pk_us, pk_us, pk_un hnp, h1]
          rw [show (0 : Int32) = nI 0 from rfl, nI_add]
          congr 1
          omega
      · have hc' : 0 < ds_cnt s i := by omega
        rw [ds_mk1 hc']
        refine ds_f1 hp (br_f ?_ (ds_82 hv hp hn (fun d15 d16 => ih _ _ _ _ _ ?_ ?_)))
        · rw [nI_add, nI_eq (by omega) (by omega)]
          omega
        · rw [pk_un hnp]
          exact h1
        · intro _
          rw [pk_us, h1, h2 hc', nI_add]
          congr 1
          rw [Nat.succ_mul]
theorem ds_nl {post : Int32 → St2 → Prop} {fw fr fm ft fb fd fi : Int32} {a1 a2 a3 a4 a5 a6 a7 a8 a9 a10 a11 a12 a13 a14 a15 a16 a17 a18 : Nat → Int32} {v s n p w : Nat} (hv : v < 4) (hs : s < 64) (h0 : 0 < s) (hn : n < 252) (hp : p < 252) (hnp : n ≠ p) (h6 : a6 v = nI s) (h14 : a14 n = nI w)
    (H : ∀ b13 b14 b15 b16 b17, b14 p = nI (ds_cnt s 6 * w) → post 1 (0, fw, fr, fm, ft, fb, fd, fi, a1, a2, a3, a4, a5, a6, a7, a8, a9, a10, a11, a12, b13, b14, b15, b16, b17, a18)) : wpX_nextLayer post (0, fw, fr, fm, ft, fb, fd, fi, a1, a2, a3, a4, a5, a6, a7, a8, a9, a10, a11, a12, a13, a14, a15, a16, a17, a18) (nI v) (nI n) 1 (nI p) := by
  have hc := ds_cpos s hs h0
  refine ⟨2, pk_le (n + 1) n (fun z => absurd z (by omega)) (fun _ => ⟨7, ?_⟩) (hx := nI_1 n)⟩
  refine ds_17 hv hs hn hp hnp h6 (fun b13 b14 b15 b16 b17 h => ?_) 6 0 rfl a13 a14 a15 a16 a17 h14 (fun z => absurd z (Nat.lt_irrefl 0))
  refine pk_le (n + 1) (n + 1) (fun _ => ?_) (fun z => absurd z (by omega)) (hx := nI_1 n)
  rw [ds_mk1 hc]
  exact H _ _ _ _ _ (h hc)
theorem ds_cl {post : St2 → Prop} {fc fw fr fm ft fb fd fi : Int32} {a1 a2 a3 a4 a5 a6 a7 a8 a9 a10 a11 a12 a13 a14 a15 a16 a17 a18 : Nat → Int32} (H : ∀ b13 b15 b16, post (fc, fw, fr, fm, ft, fb, fd, fi, a1, a2, a3, a4, a5, a6, a7, a8, a9, a10, a11, a12, b13, upd a14 0 (a14 216), b15, b16, a17, a18)) : wpX_copyLayer post (fc, fw, fr, fm, ft, fb, fd, fi, a1, a2, a3, a4, a5, a6, a7, a8, a9, a10, a11, a12, a13, a14, a15, a16, a17, a18) 216 0 1 := by
  refine ⟨2, br_f (by decide) ?_⟩
  refine pk_loop (fun n i t => wX_copyLayer_12 post (wX_copyLayer_3 post 216 0 1 fc fw fr fm ft fb fd fi 1) 216 0 1 0 fc fw fr fm ft fb fd fi n (nI i) a1 a2 a3 a4 a5 a6 a7 a8 a9 a10 a11 a12 t a14 a15 a16 a17 a18) (fun _ _ => True) 10 0 a13 (by omega) trivial ?_ ?_
  · intro n t _
    exact pk_le 10 10 (fun _ => ⟨pk_in 216 252 (by omega), pk_in 0 252 (by omega), nm_r (e' := upd a14 0 (a14 216)) rfl ⟨pk_in 216 252 (by omega), pk_in 0 252 (by omega), nm_e ⟨pk_in 216 252 (by omega), pk_in 0 252 (by omega), nm_e (nm_r (e' := 1) (by decide) (br_t (by decide) (H _ _ _)))⟩⟩⟩) (fun z => absurd z (by omega))
  · intro n i t hi _ hw
    exact pk_le 10 i (fun z => absurd z (by omega)) (fun _ => ⟨pk_in (2160 + i) 2520 (by omega) (by rw [← nI_add]; rfl), pk_in (0 + i) 2520 (by omega) (by rw [← nI_add]; rfl), nm_e (nm_r (nI_1 i) (hw _ trivial))⟩)
theorem ds_19 {post : St2 → Prop} {J8 : Int32 → Int32 → Int32 → Int32 → Int32 → Int32 → Int32 → Int32 → Int32 → Int32 → Int32 → (Nat → Int32) → (Nat → Int32) → (Nat → Int32) → (Nat → Int32) → (Nat → Int32) → (Nat → Int32) → (Nat → Int32) → (Nat → Int32) → (Nat → Int32) → (Nat → Int32) → (Nat → Int32) → (Nat → Int32) → (Nat → Int32) → (Nat → Int32) → (Nat → Int32) → (Nat → Int32) → (Nat → Int32) → (Nat → Int32) → Prop} {fw fr fm ft fd fi : Int32} {a1 a2 a3 a4 a5 a6 a7 a8 a9 a10 a11 a12 a13 a14 a15 a16 a18 : Nat → Int32} {x1 x2 : Int32} {s n w : Nat} (hs : s < 64) (hn : n < 252) (h6 : a6 3 = nI s) (h14 : a14 n = nI w)
    (H : ∀ y gb b17, J8 (nI (ds_cnt s 6 * w)) y (nI (n + 1)) 0 fw fr fm ft gb fd fi a1 a2 a3 a4 a5 a6 a7 a8 a9 a10 a11 a12 a13 a14 a15 a16 b17 a18) :
    ∀ (k i : Nat), i + k = 6 → ∀ (y fb : Int32) (a17 : Nat → Int32), wX_finish_19 post J8 x1 x2 (nI n) (k + 1) (nI (ds_cnt s i * w)) y (nI i) 0 fw fr fm ft fb fd fi a1 a2 a3 a4 a5 a6 a7 a8 a9 a10 a11 a12 a13 a14 a15 a16 a17 a18
  | 0, i, hi => fun y fb a17 => by
    have e : i = 6 := by omega
    subst e
    exact pk_le 6 6 (fun _ => nm_r (nI_1 n) (H _ _ _)) (fun z => absurd z (by omega))
  | k + 1, i, hi => fun y fb a17 => by
    have ih := ds_19 (post := post) (x1 := x1) (x2 := x2) hs hn h6 h14 H k (i + 1) (by omega)
    refine pk_le 6 i (fun z => absurd z (by omega)) (fun _ => ds_bit s i hs (by omega) h6 rfl (fun hb => nm_r (nI_1 i) ?_) (fun hb => ds_ms (fun c17 => br_f (by decide) (ds_aa (br_f (by decide) ⟨pk_in n 252 hn, nm_r (e' := nI ((ds_cnt s i + 1) * w)) ?_ ⟨pk_in n 252 hn, nm_e ?_⟩⟩)))))
    · rw [ds_c0 hb] at ih
      exact ih _ _ _
    · rw [nI_clamp (by omega), h14, nI_add, Nat.succ_mul]
    · rw [ds_c1 hb] at ih
      exact br_c (fun _ => br_c (fun _ => ⟨pk_in n 252 hn, nm_e (nm_r (nI_1 i) (ih _ _ _))⟩) (fun _ => ⟨pk_in n 252 hn, nm_e (nm_r (nI_1 i) (ih _ _ _))⟩)) (fun _ => nm_r (nI_1 i) (ih _ _ _))
theorem ds_fi {post : St2 → Prop} {fw fr fm ft fb fd fi : Int32} {a1 a2 a3 a4 a5 a6 a7 a8 a9 a10 a11 a12 a13 a14 a15 a16 a17 a18 : Nat → Int32} {s w : Nat} (hs : s < 64) (h6 : a6 3 = nI s) (h14 : a14 0 = nI w) (hm : ¬ fm = 2)
    (H : ∀ gb b17, post (0, fw, fr, fm, nI (ds_cnt s 6 * w), gb, fd, fi, a1, a2, a3, a4, a5, a6, a7, a8, a9, a10, a11, a12, a13, a14, a15, a16, b17, a18)) : wpX_finish post (0, fw, fr, fm, ft, fb, fd, fi, a1, a2, a3, a4, a5, a6, a7, a8, a9, a10, a11, a12, a13, a14, a15, a16, a17, a18) 0 1 := by
  refine ⟨2, br_f (by decide) ⟨7, ?_⟩⟩
  have q := ds_19 (post := post) (J8 := wX_finish_8 post 0 1 1) (x1 := 0) (x2 := 1) (n := 0) (fr := fr) (fw := fw) (fm := fm) (ft := ft) (fd := fd) (fi := fi) (a1 := a1) (a2 := a2) (a3 := a3) (a4 := a4) (a5 := a5) (a7 := a7) (a8 := a8) (a9 := a9) (a10 := a10) (a11 := a11) (a12 := a12) (a13 := a13) (a15 := a15) (a16 := a16) (a18 := a18) hs (by omega) h6 h14 (fun y gb b17 => br_t (by decide) (br_f hm (H _ _))) 6 0 rfl 0 fb a17
  rw [show ds_cnt s 0 * w = 0 from Nat.zero_mul w] at q
  exact q
theorem ds_sb {post : St2 → Prop} {fw fr fm ft fb fd fi : Int32} {a1 a2 a3 a4 a5 a6 a7 a8 a9 a10 a11 a12 a13 a14 a15 a16 a17 a18 : Nat → Int32} {s : Nat → Nat} (hs : ∀ j, j < 4 → s j < 64) (h0 : ∀ j, j < 4 → 0 < s j) (h6 : ∀ j, j < 4 → a6 j = nI (s j)) (hm : ¬ fm = 2)
    (H : ∀ gb b13 b14 b15 b16 b17, post (0, fw, fr, fm, nI (ds_pr s), gb, fd, fi, a1, a2, a3, a4, a5, a6, a7, a8, a9, a10, a11, a12, b13, b14, b15, b16, b17, a18)) : wpX_solveByLayers post (0, fw, fr, fm, ft, fb, fd, fi, a1, a2, a3, a4, a5, a6, a7, a8, a9, a10, a11, a12, a13, a14, a15, a16, a17, a18) := by
  refine pk_loop (fun n i t => wX_solveByLayers_6 post 0 1 0 fw fr fm ft fb fd fi n (nI i) a1 a2 a3 a4 a5 a6 a7 a8 a9 a10 a11 a12 t a14 a15 a16 a17 a18) (fun _ _ => True) 10 0 a13 (by omega) trivial ?_ ?_
  · intro n t _
    refine pk_le 10 10 (fun _ => nm_e (nm_e (nm_e ⟨4, ?_⟩))) (fun z => absurd z (by omega))
    refine br_f (by decide) (br_t rfl (br_f (by decide) (br_f (by decide) ?_)))
    refine ds_nl (v := 0) (s := s 0) (n := 0) (p := 216) (w := 1) (by decide) (hs 0 (by decide)) (h0 0 (by decide)) (by decide) (by decide) (by decide) (h6 0 (by decide)) rfl (fun b13 b14 b15 b16 b17 h => nm_r (e' := 1) (by decide) ?_)
    refine br_f (by decide) (br_f (by decide) (br_t rfl (br_t rfl (ds_cl (fun c13 c15 c16 => br_f (by decide) ?_)))))
    refine ds_nl (v := 1) (s := s 1) (n := 0) (p := 216) (w := ds_cnt (s 0) 6) (by decide) (hs 1 (by decide)) (h0 1 (by decide)) (by decide) (by decide) (by decide) (h6 1 (by decide)) (by rw [pk_us, h, Nat.mul_one]) (fun b13 b14 b15 b16 b17 h => nm_r (e' := 2) (by decide) ?_)
    refine br_f (by decide) (br_f (by decide) (br_f (by decide) (br_f (by decide) (br_t rfl ?_))))
    refine ds_nl (v := 2) (s := s 2) (n := 216) (p := 0) (by decide) (hs 2 (by decide)) (h0 2 (by decide)) (by decide) (by decide) (by decide) (h6 2 (by decide)) h (fun b13 b14 b15 b16 b17 h => nm_r (e' := 3) (by decide) ?_)
    refine br_t (by decide) ?_
    exact ds_fi (hs 3 (by decide)) (h6 3 (by decide)) h hm (fun gb b17 => H _ _ _ _ _ _)
  · intro n i t hi _ hw
    exact pk_le 10 i (fun z => absurd z (by omega)) (fun _ => ⟨pk_in i 10 hi, br_c (fun _ => ⟨pk_in i 2520 (by omega), nm_e (nm_r (nI_1 i) (hw _ trivial))⟩) (fun _ => ⟨pk_in i 2520 (by omega), nm_e (nm_r (nI_1 i) (hw _ trivial))⟩)⟩)
end
section
theorem ds_so {post : St2 → Prop} {fr fd fi : Int32} {a1 a2 a3 a4 a5 a6 a7 a8 a9 a10 a11 a12 a13 a14 a15 a16 a17 a18 : Nat → Int32} {gm gt gb : Int32} {m : Int32} {s : Nat → Nat} (hs : ∀ j, j < 4 → s j < 64) (h6 : ∀ j, j < 4 → a6 j = nI (s j)) (hm : ¬ m = 2)
    (H : ∀ hb b13 b14 b15 b16 b17, post (0, 2, fr, m, nI (ds_pr s), hb, fd, fi, a1, a2, a3, a4, a5, a6, a7, a8, a9, a10, a11, a12, b13, b14, b15, b16, b17, a18)) : wpX_solve post (0, 2, fr, gm, gt, gb, fd, fi, a1, a2, a3, a4, a5, a6, a7, a8, a9, a10, a11, a12, a13, a14, a15, a16, a17, a18) m := by
  refine pk_loop (σ := Unit) (fun n i _ => wX_solve_19 post 0 2 fr m 0 1000 fd fi a1 a2 a3 a4 a5 a6 a7 a8 a9 a10 a11 a12 a13 a14 a15 a16 a17 a18 n (nI i)) (fun i _ => ∀ j, j < i → 0 < s j) 4 0 () (by omega) (fun j hj => absurd hj (by omega)) ?_ ?_
  · intro n _ h0
    exact pk_le 4 4 (fun _ => br_f (by decide) (br_f (by decide) (ds_sb hs h0 h6 hm H))) (fun z => absurd z (by omega))
  · intro n i _ hi h0 hw
    have hsi := hs i hi
    refine pk_le 4 i (fun z => absurd z (by omega)) (fun _ => ⟨pk_in i 4 hi, pk_eq (s i) 0 (fun z => ?_) (fun z => nm_r (nI_1 i) (hw () (lt_s h0 (by omega)))) (hx := by rw [nI_clamp (by omega)]; exact h6 i hi)⟩)
    have q := H 1000 a13 a14 a15 a16 a17
    rw [ds_p0 hi z] at q
    exact q
theorem ds_st {post : St2 → Prop} {fc fw fr fm ft fb fd fi : Int32} {a1 a2 a3 a4 a5 a6 a7 a8 a9 a10 a11 a12 a13 a14 a15 a16 a17 a18 : Nat → Int32} {s : Nat → Nat} (hs : ∀ j, j < 4 → s j < 64) (h1 : ∀ j, j < 4 → a1 j = nI (s j))
    (H : ∀ gr b6, (∀ j, j < 4 → b6 j = nI (s j)) → post (fc, fw, gr, fm, ft, fb, fd, fi, a1, a2, a3, a4, a5, b6, a7, a8, a9, a10, a11, a12, a13, a14, a15, a16, a17, a18)) : wpX_start post (fc, fw, fr, fm, ft, fb, fd, fi, a1, a2, a3, a4, a5, a6, a7, a8, a9, a10, a11, a12, a13, a14, a15, a16, a17, a18) := by
  refine nm_e ?_
  refine pk_loop (fun n i t => wX_start_14 post fc fw (((1 : Int32) <<< (fc &&& 31)) - 1) fm ft fb fd fi n (nI i) a1 a2 a3 a4 a5 t a7 a8 a9 a10 a11 a12 a13 a14 a15 a16 a17 a18) (fun i t => ∀ j, j < i → t j = nI (s j)) 4 0 a6 (by omega) (fun j hj => absurd hj (by omega)) ?_ ?_
  · intro n t h
    exact pk_le 4 4 (fun _ => H _ _ h) (fun z => absurd z (by omega))
  · intro n i t hi h hw
    refine pk_le 4 i (fun z => absurd z (by omega)) (fun _ => ⟨pk_in i 4 hi, pk_in i 4 hi, nm_r (e' := upd t i (nI (s i))) ?_ (nm_r (nI_1 i) (hw _ (lt_s (fun j hj => ?_) pk_us)))⟩)
    · rw [nI_clamp (by omega), h1 i hi, ds_nb _ (hs i hi)]
    · show upd t i (nI (s i)) j = nI (s j)
      rw [pk_un (by omega)]
      exact h j hj
theorem ds_co {post : Int32 → St2 → Prop} {fr fm ft fb fd fi : Int32} {a1 a2 a3 a4 a5 a6 a7 a8 a9 a10 a11 a12 a13 a14 a15 a16 a17 a18 : Nat → Int32} {s : Nat → Nat} (hs : ∀ j, j < 4 → s j < 64) (h1 : ∀ j, j < 4 → a1 j = nI (s j))
    (H : ∀ gr gm gt gb b6 b13 b14 b15 b16 b17, post (nI (ds_pr s)) (0, 2, gr, gm, gt, gb, fd, fi, a1, a2, a3, a4, a5, b6, a7, a8, a9, a10, a11, a12, b13, b14, b15, b16, b17, a18)) : wpX_count post (0, 2, fr, fm, ft, fb, fd, fi, a1, a2, a3, a4, a5, a6, a7, a8, a9, a10, a11, a12, a13, a14, a15, a16, a17, a18) :=
  ds_st (fr := fr) hs h1 (fun gr b6 h6 => ds_so (gm := fm) (gt := ft) (gb := fb) hs h6 (by decide) (fun _ _ _ _ _ _ => H _ _ _ _ _ _ _ _ _ _))
theorem ds_hs {post : Int32 → St2 → Prop} {fr fm ft fb fd fi : Int32} {a1 a2 a3 a4 a5 a6 a7 a8 a9 a10 a11 a12 a13 a14 a15 a16 a17 a18 : Nat → Int32} {s : Nat → Nat} (hs : ∀ j, j < 4 → s j < 64) (h6 : ∀ j, j < 4 → a6 j = nI (s j))
    (H : ∀ gm gt gb b13 b14 b15 b16 b17, post (nI (ds_mk (ds_pr s))) (0, 2, fr, gm, gt, gb, fd, fi, a1, a2, a3, a4, a5, a6, a7, a8, a9, a10, a11, a12, b13, b14, b15, b16, b17, a18)) : wpX_hasSolution post (0, 2, fr, fm, ft, fb, fd, fi, a1, a2, a3, a4, a5, a6, a7, a8, a9, a10, a11, a12, a13, a14, a15, a16, a17, a18) := by
  have hl := ds_pl hs
  refine ds_so (gm := fm) (gt := ft) (gb := fb) hs h6 (by decide) (fun _ _ _ _ _ _ => pk_le (ds_pr s) 0 (fun z => ?_) (fun z => ?_))
  · rw [ds_mk0 (by omega)] at H
    exact H _ _ _ _ _ _ _ _
  · rw [ds_mk1 z] at H
    exact H _ _ _ _ _ _ _ _
theorem ds_h1 {post : Int32 → St2 → Prop} {fr fm ft fb fd fi : Int32} {a1 a2 a3 a4 a5 a6 a7 a8 a9 a10 a11 a12 a13 a14 a15 a16 a17 a18 : Nat → Int32} {s : Nat → Nat} (hs : ∀ j, j < 4 → s j < 64) (h0 : ∀ j, j < 4 → 0 < s j) (h6 : ∀ j, j < 4 → a6 j = nI (s j))
    (H : ∀ gm gt gb b13 b14 b15 b16 b17, post 1 (0, 2, fr, gm, gt, gb, fd, fi, a1, a2, a3, a4, a5, a6, a7, a8, a9, a10, a11, a12, b13, b14, b15, b16, b17, a18)) : wpX_hasSolution post (0, 2, fr, fm, ft, fb, fd, fi, a1, a2, a3, a4, a5, a6, a7, a8, a9, a10, a11, a12, a13, a14, a15, a16, a17, a18) := by
  refine ds_hs (fm := fm) (ft := ft) (fb := fb) hs h6 ?_
  rw [ds_mk1 (ds_pp hs h0)]
  exact H
/-- a picture of the domains with a value set at one place -/
def ds_set (s : Nat → Nat) (v x : Nat) : Nat → Nat := fun j => if j = v then x else s j
theorem ds_sv (s : Nat → Nat) (v x : Nat) : ds_set s v x v = x := if_pos rfl
theorem ds_sn {s : Nat → Nat} {v x j : Nat} (h : j ≠ v) : ds_set s v x j = s j := if_neg h
theorem ds_sall {s : Nat → Nat} {v x : Nat} {P : Nat → Nat → Prop} (hv : P v x) (h : ∀ j, j < 4 → j ≠ v → P j (s j)) : ∀ j, j < 4 → P j (ds_set s v x j) := by
  intro j hj
  by_cases e : j = v
  · rw [e, ds_sv]; exact hv
  · rw [ds_sn e]; exact h j hj e
theorem ds_p21 {post : Int32 → St2 → Prop} {fr fd fi : Int32} {a1 a2 a3 a4 a5 a7 a8 a9 a10 a11 a12 a18 : Nat → Int32} {s : Nat → Nat} {v : Nat} (hv : v < 4) (hs : ∀ j, j < 4 → s j < 64) (h0 : ∀ j, j < 4 → j ≠ v → 0 < s j) (h1 : a1 v = nI (s v))
    (H : ∀ gm gt gb b6 b13 b14 b15 b16 b17, post (nI (s v)) (0, 2, fr, gm, gt, gb, fd, fi, a1, a2, a3, a4, a5, b6, a7, a8, a9, a10, a11, a12, b13, b14, b15, b16, b17, a18)) :
    ∀ (k i : Nat), i + k = 6 → ∀ (fm ft fb : Int32) (a6 a13 a14 a15 a16 a17 : Nat → Int32), (∀ j, j < 4 → j ≠ v → a6 j = nI (s j)) → wX_possible_21 post (nI v) (k + 1) (nI (s v % 2 ^ i)) (nI i) 0 2 fr fm ft fb fd fi a1 a2 a3 a4 a5 a6 a7 a8 a9 a10 a11 a12 a13 a14 a15 a16 a17 a18
  | 0, i, hi => fun fm ft fb a6 a13 a14 a15 a16 a17 h6 => by
    have e : i = 6 := by omega
    subst e
    rw [Nat.mod_eq_of_lt (hs v hv)]
    exact pk_le 6 6 (fun _ => H _ _ _ _ _ _ _ _ _) (fun z => absurd z (by omega))
  | k + 1, i, hi => fun fm ft fb a6 a13 a14 a15 a16 a17 h6 => by
    have ih := ds_p21 (post := post) hv hs h0 h1 H k (i + 1) (by omega)
    have hi6 : i < 6 := by omega
    refine pk_le 6 i (fun z => absurd z (by omega)) (fun _ => ⟨pk_in v 4 hv, ds_bit (s v) i (hs v hv) hi6 (by rw [nI_clamp (by omega)]; exact h1) rfl (fun hb => nm_r (nI_1 i) ?_) (fun hb => ⟨pk_in v 4 hv, nm_r (e' := upd a6 v (nI (2 ^ i))) (by rw [nI_clamp (by omega), ds_sh i hi6]) ?_⟩)⟩)
    · rw [ds_or0 (s v) (hs v hv) i hi6 hb] at ih
      exact ih _ _ _ _ _ _ _ _ _ h6
    · refine ds_h1 (fm := fm) (ft := ft) (fb := fb) (s := ds_set s v (2 ^ i)) (ds_sall (P := fun _ x => x < 64) (ds_p2 i hi6).1 (fun j hj _ => hs j hj)) (ds_sall (P := fun _ x => 0 < x) (ds_p2 i hi6).2.1 h0) (ds_sall (P := fun j x => upd a6 v (nI (2 ^ i)) j = nI x) pk_us (fun j hj e => by rw [pk_un e]; exact h6 j hj e)) (fun gm gt gb b13 b14 b15 b16 b17 => br_f (by decide) (nm_r (ds_or (s v) (hs v hv) i hi6 hb) (nm_r (nI_1 i) (ih _ _ _ _ _ _ _ _ _ ?_))))
      intro j hj e
      rw [pk_un e]
      exact h6 j hj e
theorem ds_po {post : Int32 → St2 → Prop} {fr fm ft fb fd fi : Int32} {a1 a2 a3 a4 a5 a6 a7 a8 a9 a10 a11 a12 a13 a14 a15 a16 a17 a18 : Nat → Int32} {s : Nat → Nat} {v : Nat} (hv : v < 4) (hs : ∀ j, j < 4 → s j < 64) (h0 : ∀ j, j < 4 → j ≠ v → 0 < s j) (h1 : ∀ j, j < 4 → a1 j = nI (s j))
    (H : ∀ gr gm gt gb b6 b13 b14 b15 b16 b17, post (nI (s v)) (0, 2, gr, gm, gt, gb, fd, fi, a1, a2, a3, a4, a5, b6, a7, a8, a9, a10, a11, a12, b13, b14, b15, b16, b17, a18)) : wpX_possible post (0, 2, fr, fm, ft, fb, fd, fi, a1, a2, a3, a4, a5, a6, a7, a8, a9, a10, a11, a12, a13, a14, a15, a16, a17, a18) (nI v) := by
  refine br_f (nI_pos (by omega)) (pk_le v 3 (fun _ => ?_) (fun z => absurd z (by omega)))
  refine ds_st (fr := fr) hs h1 (fun gr b6 h6 => ⟨7, ?_⟩)
  have q := ds_p21 (post := post) (fr := gr) (fd := fd) (fi := fi) (a1 := a1) (a2 := a2) (a3 := a3) (a4 := a4) (a5 := a5) (a7 := a7) (a8 := a8) (a9 := a9) (a10 := a10) (a11 := a11) (a12 := a12) (a18 := a18) hv hs h0 (h1 v hv) (fun _ _ _ _ _ _ _ _ _ => H _ _ _ _ _ _ _ _ _ _) 6 0 rfl fm ft fb b6 a13 a14 a15 a16 a17 (fun j hj _ => h6 j hj)
  rw [Nat.pow_zero, Nat.mod_one] at q
  exact q
theorem ds_li {post : Int32 → Prop} {fc fw fr fm ft fb fd fi : Int32} {a1 a2 a3 a4 a5 a6 a7 a8 a9 a10 a11 a12 a13 a14 a15 a16 a17 a18 : Nat → Int32} {s : Nat} (hs : s < 64) (h0 : 0 < s) (H : post (nI (ds_low s))) : wpX_lowestIn post (fc, fw, fr, fm, ft, fb, fd, fi, a1, a2, a3, a4, a5, a6, a7, a8, a9, a10, a11, a12, a13, a14, a15, a16, a17, a18) (nI s) := by
  obtain ⟨l6, l1, l0⟩ := ds_lo s hs h0
  refine pk_loop (σ := Unit) (fun n i _ => wX_lowestIn_2 post (nI s) fc fw fr fm ft fb fd fi a1 a2 a3 a4 a5 a6 a7 a8 a9 a10 a11 a12 a13 a14 a15 a16 a17 a18 n (nI i)) (fun _ _ => True) (ds_low s) 0 () (by omega) trivial ?_ ?_
  · intro n _ _
    exact ds_bit s (ds_low s) hs l6 rfl rfl (fun z => absurd (l1.symm.trans z) (by decide)) (fun _ => H)
  · intro n i _ hi _ hw
    exact ds_bit s i hs (by omega) rfl rfl (fun _ => nm_r (nI_1 i) (hw () trivial)) (fun z => absurd (z.symm.trans (l0 i hi)) (by decide))
theorem ds_cf {post : St2 → Prop} {fr fm ft fb fd fi : Int32} {a1 a2 a3 a4 a5 a6 a7 a8 a9 a10 a11 a12 a13 a14 a15 a16 a17 a18 : Nat → Int32} {s : Nat → Nat} {v : Nat} (hv : v < 4) (hs : ∀ j, j < 4 → s j < 64) (h0 : ∀ j, j < 4 → 0 < s j) (h6 : ∀ j, j < 4 → a6 j = nI (s j))
    (H : ∀ gm gt gb b6 b13 b14 b15 b16 b17, (∀ j, j < 4 → b6 j = nI (ds_set s v (2 ^ ds_low (s v)) j)) → post (0, 2, fr, gm, gt, gb, fd, fi, a1, a2, a3, a4, a5, b6, a7, a8, a9, a10, a11, a12, b13, b14, b15, b16, b17, a18)) : wpX_chooseFirst post (0, 2, fr, fm, ft, fb, fd, fi, a1, a2, a3, a4, a5, a6, a7, a8, a9, a10, a11, a12, a13, a14, a15, a16, a17, a18) (nI v) := by
  obtain ⟨l6, l1, l0⟩ := ds_lo (s v) (hs v hv) (h0 v hv)
  obtain ⟨e1, e2, e3⟩ := ds_p2 _ l6
  have h7 : ∀ j, j < 4 → upd a6 v (nI (2 ^ ds_low (s v))) j = nI (ds_set s v (2 ^ ds_low (s v)) j) := ds_sall (P := fun j x => upd a6 v (nI (2 ^ ds_low (s v))) j = nI x) pk_us (fun j hj e => by rw [pk_un e]; exact h6 j hj)
  refine ⟨pk_in v 4 hv, nm_r (e' := nI (s v)) (by rw [nI_clamp (by omega)]; exact h6 v hv) ?_⟩
  have key : ∀ (k i : Nat), i + k = ds_low (s v) → wX_chooseFirst_12 post (nI v) (nI (s v)) (k + 2) 0 (nI i) 0 2 fr fm ft fb fd fi a1 a2 a3 a4 a5 a6 a7 a8 a9 a10 a11 a12 a13 a14 a15 a16 a17 a18 := by
    intro k
    induction k with
    | zero =>
      intro i hi
      have e : i = ds_low (s v) := by omega
      rw [e]
      refine pk_le 6 (ds_low (s v)) (fun z => absurd z (by omega)) (fun _ => br_t rfl (ds_bit (s v) (ds_low (s v)) (hs v hv) l6 rfl rfl (fun z => absurd (l1.symm.trans z) (by decide)) (fun _ => ⟨pk_in v 4 hv, nm_r (e' := upd a6 v (nI (2 ^ ds_low (s v)))) (by rw [nI_clamp (by omega), ds_sh _ l6]) ?_⟩)))
      refine ds_h1 (fm := fm) (ft := ft) (fb := fb) (s := ds_set s v (2 ^ ds_low (s v))) (ds_sall (P := fun _ x => x < 64) e1 (fun j hj _ => hs j hj)) (ds_sall (P := fun _ x => 0 < x) e2 (fun j hj _ => h0 j hj)) h7 (fun gm gt gb b13 b14 b15 b16 b17 => nm_e ?_)
      exact br_c (fun _ => H _ _ _ _ _ _ _ _ _ h7) (fun _ => br_f (by decide) (H _ _ _ _ _ _ _ _ _ h7))
    | succ k ih =>
      intro i hi
      exact pk_le 6 i (fun z => absurd z (by omega)) (fun _ => br_t rfl (ds_bit (s v) i (hs v hv) (by omega) rfl rfl (fun _ => nm_r (nI_1 i) (ih (i + 1) (by omega))) (fun z => absurd (z.symm.trans (l0 i (by omega))) (by decide))))
  exact ⟨ds_low (s v) + 2, key (ds_low (s v)) 0 (by omega)⟩
theorem ds_f30 {post : Int32 → St2 → Prop} {fr fd fi : Int32} {a1 a2 a3 a4 a5 a7 a8 a9 a10 a11 a12 a18 : Nat → Int32} {s : Nat → Nat} {v : Nat} (hv : v < 4)
    (H : ∀ gm gt gb b6 b13 b14 b15 b16 b17, post (nI (ds_low (s v))) (0, 2, fr, gm, gt, gb, fd, fi, a1, a2, a3, a4, a5, b6, a7, a8, a9, a10, a11, a12, b13, b14, b15, b16, b17, a18)) :
    ∀ (k i : Nat), i + k = v + 1 → ∀ (fm ft fb : Int32) (a6 a13 a14 a15 a16 a17 : Nat → Int32) (t : Nat → Nat), (∀ j, j < 4 → t j < 64) → (∀ j, j < 4 → 0 < t j) → (∀ j, j < 4 → ds_low (t j) = ds_low (s j)) → (∀ j, j < 4 → a6 j = nI (t j)) → wX_first_30 post (nI v) (k + 1) (nI i) 0 2 fr fm ft fb fd fi a1 a2 a3 a4 a5 a6 a7 a8 a9 a10 a11 a12 a13 a14 a15 a16 a17 a18
  | 0, i, hi => fun fm ft fb a6 a13 a14 a15 a16 a17 t ht h0 hl h6 => by
    refine pk_lt v i (fun _ => ⟨pk_in v 4 hv, ?_⟩) (fun z => absurd z (by omega))
    rw [nI_clamp (show v < 2 ^ 31 by omega), h6 v hv]
    refine ds_li (ht v hv) (h0 v hv) ?_
    rw [hl v hv]
    exact H _ _ _ _ _ _ _ _ _
  | k + 1, i, hi => fun fm ft fb a6 a13 a14 a15 a16 a17 t ht h0 hl h6 => by
    have ih := ds_f30 (post := post) hv H k (i + 1) (by omega)
    have hi4 : i < 4 := by omega
    obtain ⟨l6, _, _⟩ := ds_lo (t i) (ht i hi4) (h0 i hi4)
    obtain ⟨e1, e2, e3⟩ := ds_p2 _ l6
    refine pk_lt v i (fun z => absurd z (by omega)) (fun _ => ds_cf hi4 ht h0 h6 (fun gm gt gb b6 b13 b14 b15 b16 b17 h => nm_r (nI_1 i) (ih _ _ _ _ _ _ _ _ _ (ds_set t i (2 ^ ds_low (t i))) (ds_sall (P := fun _ x => x < 64) e1 (fun j hj _ => ht j hj)) (ds_sall (P := fun _ x => 0 < x) e2 (fun j hj _ => h0 j hj)) (ds_sall (P := fun j x => ds_low x = ds_low (s j)) (e3.trans (hl i hi4)) (fun j hj _ => hl j hj)) h)))
theorem ds_fs {post : Int32 → St2 → Prop} {fr fm ft fb fd fi : Int32} {a1 a2 a3 a4 a5 a6 a7 a8 a9 a10 a11 a12 a13 a14 a15 a16 a17 a18 : Nat → Int32} {s : Nat → Nat} {v : Nat} (hv : v < 4) (hs : ∀ j, j < 4 → s j < 64) (h0 : ∀ j, j < 4 → j ≠ v → 0 < s j) (h1 : ∀ j, j < 4 → a1 j = nI (s j))
    (H : ∀ gr gm gt gb b6 b13 b14 b15 b16 b17, post (if s v = 0 then -1002 else nI (ds_low (s v))) (0, 2, gr, gm, gt, gb, fd, fi, a1, a2, a3, a4, a5, b6, a7, a8, a9, a10, a11, a12, b13, b14, b15, b16, b17, a18)) : wpX_first post (0, 2, fr, fm, ft, fb, fd, fi, a1, a2, a3, a4, a5, a6, a7, a8, a9, a10, a11, a12, a13, a14, a15, a16, a17, a18) (nI v) := by
  refine br_f (nI_pos (by omega)) (pk_le v 3 (fun _ => ?_) (fun z => absurd z (by omega)))
  refine ds_st (fr := fr) hs h1 (fun gr b6 h6 => ?_)
  by_cases hz : s v = 0
  · rw [if_pos hz] at H
    refine ds_hs (fm := fm) (ft := ft) (fb := fb) hs h6 ?_
    rw [ds_mk0 (ds_p0 hv hz)]
    exact fun _ _ _ _ _ _ _ _ => br_t rfl (H _ _ _ _ _ _ _ _ _ _)
  · rw [if_neg hz] at H
    have h00 : ∀ j, j < 4 → 0 < s j := by
      intro j hj
      by_cases e : j = v
      · rw [e]; omega
      · exact h0 j hj e
    exact ds_h1 (fm := fm) (ft := ft) (fb := fb) hs h00 h6 (fun gm gt gb b13 b14 b15 b16 b17 => br_f (by decide) ⟨v + 2, ds_f30 hv (fun _ _ _ _ _ _ _ _ _ => H _ _ _ _ _ _ _ _ _ _) (v + 1) 0 (by omega) _ _ _ _ _ _ _ _ _ s hs h00 (fun _ _ => rfl) h6⟩)
end
section
def ds_in (v lo hi : Int32) : Int32 := if v < lo then 0 else if hi < v then 0 else 1
def ds_an (a b : Int32) : Int32 := if a = 0 then 0 else b
theorem ds_in01 (v lo hi : Int32) : ds_in v lo hi = 0 ∨ ds_in v lo hi = 1 := by
  unfold ds_in
  by_cases h : v < lo
  · rw [if_pos h]; exact Or.inl rfl
  · rw [if_neg h]
    by_cases g : hi < v
    · rw [if_pos g]; exact Or.inl rfl
    · rw [if_neg g]; exact Or.inr rfl
theorem ds_wi {post : Int32 → Prop} {u : St0} {a b c : Int32} (H : post (ds_in a b c)) : wpL_in post u a b c := by
  unfold ds_in at H
  refine br_c (fun h => ?_) (fun h => br_c (fun g => ?_) (fun g => ?_))
  · rw [if_pos h] at H; exact H
  · rw [if_neg h, if_pos g] at H; exact H
  · rw [if_neg h, if_neg g] at H; exact H
theorem ds_wx {post : Int32 → Prop} {fc fw fr fm ft fb fd fi : Int32} {a1 a2 a3 a4 a5 a6 a7 a8 a9 a10 a11 a12 a13 a14 a15 a16 a17 a18 : Nat → Int32} {p m : Int32} (H : post (ds_in p 0 m)) : wpX_isWithin post (fc, fw, fr, fm, ft, fb, fd, fi, a1, a2, a3, a4, a5, a6, a7, a8, a9, a10, a11, a12, a13, a14, a15, a16, a17, a18) p m :=
  ds_wi (u := ()) H
theorem ds_ab {post : Int32 → Prop} {a b : Int32} {X : Prop} (H : post (ds_an a b)) (h : post b → X) : (a = 0 → post 0) ∧ (¬ a = 0 → X) := by
  unfold ds_an at H
  refine br_c (fun z => ?_) (fun z => ?_)
  · rw [if_pos z] at H; exact H
  · rw [if_neg z] at H; exact h H
theorem ds_fn {post : Int32 → Prop} {a b c : Int32} (H : post (ds_in a b c)) : (ds_in a b c = 0 → post 0) ∧ (¬ ds_in a b c = 0 → post 1) := by
  rcases ds_in01 a b c with h | h
  · rw [h] at H; exact br_t h H
  · rw [h] at H; exact br_f (by rw [h]; decide) H
theorem ds_nbo (a b c : Int32) : narrow .boolean (.int (ds_in a b c)) = .int (ds_in a b c) := by
  rcases ds_in01 a b c with h | h <;> rw [h] <;> rfl
def ds_fit (k : Nat) (p q r : Int32) : Int32 := match k with
  | 0 => ds_an (ds_in p 0 2400) (ds_in q (-60) 60)
  | 1 => ds_an (ds_in p 0 2400) (ds_in q (-60) 60)
  | 2 => ds_in p 0 15
  | 3 => ds_an (ds_in p 0 3) (ds_an (ds_in q 0 3) (ds_in r 0 46655))
  | 4 => ds_an (ds_in p 0 3) (ds_an (ds_in q 0 3) (ds_in r 0 3))
  | 5 => ds_an (ds_in p 0 23) (ds_in q 0 23)
  | 6 => ds_an (ds_in p 0 3) (ds_an (ds_in q 0 3) (ds_in r 0 5))
  | 7 => ds_an (ds_in p 0 15) (ds_an (ds_in q 0 4) (ds_in r 0 5))
  | _ => ds_an (ds_in p 0 3) (ds_an (ds_in q 0 3) (ds_in r 0 15))
theorem ds_ft {post : Int32 → Prop} {p q r : Int32} : ∀ (k : Nat), k < 9 → post (ds_fit k p q r) → wpL_fits post () (nI k) p q r
  | 0, _, H => br_f (by decide) (ds_wi (ds_ab H (fun h => ds_wi (ds_fn h))))
  | 1, _, H => br_f (by decide) (ds_wi (ds_ab H (fun h => ds_wi (ds_fn h))))
  | 2, _, H => br_t (by decide) (br_t (by decide) (ds_wi ⟨ds_nbo _ _ _, H⟩))
  | 3, _, H => br_t (by decide) (br_f (by decide) (br_f (by decide) (br_f (by decide) (ds_wi (ds_ab H (fun h => ds_wi (ds_ab h (fun g => br_t (by decide) (ds_wi (ds_fn g))))))))))
  | 4, _, H => br_t (by decide) (br_f (by decide) (br_f (by decide) (br_f (by decide) (ds_wi (ds_ab H (fun h => ds_wi (ds_ab h (fun g => br_f (by decide) (br_t (by decide) (ds_wi (ds_fn g)))))))))))
  | 5, _, H => br_t (by decide) (br_f (by decide) (br_t (by decide) (ds_wi (ds_ab H (fun h => ds_wi (ds_fn h))))))
  | 6, _, H => br_t (by decide) (br_f (by decide) (br_f (by decide) (br_f (by decide) (ds_wi (ds_ab H (fun h => ds_wi (ds_ab h (fun g => br_f (by decide) (br_f (by decide) (br_t (by decide) (ds_wi (ds_fn g))))))))))))
  | 7, _, H => br_t (by decide) (br_f (by decide) (br_f (by decide) (br_t (by decide) (ds_wi (ds_ab H (fun h => ds_wi (ds_ab h (fun g => ds_wi (ds_fn g)))))))))
  | 8, _, H => br_t (by decide) (br_f (by decide) (br_f (by decide) (br_f (by decide) (ds_wi (ds_ab H (fun h => ds_wi (ds_ab h (fun g => br_f (by decide) (br_f (by decide) (br_f (by decide) (ds_wi (ds_fn g))))))))))))
  | n + 9, h, _ => absurd h (by omega)
theorem ds_o9 {post : Int32 → Prop} {p q : Int32} {fc fw fr fm ft fb fd fi : Int32} {a1 a2 a3 a4 a5 a6 a7 a8 a9 a10 a11 a12 a13 a14 a15 a16 a17 a18 : Nat → Int32} (H : post (ds_an (ds_in p 0 2400) (ds_in q (-60) 60))) : wX_operandsFit_9 post p q fc fw fr fm ft fb fd fi a1 a2 a3 a4 a5 a6 a7 a8 a9 a10 a11 a12 a13 a14 a15 a16 a17 a18 :=
  ds_wx (ds_ab H (fun h => by
    unfold ds_in at h
    refine br_c (fun z => ?_) (fun z => br_c (fun g => ?_) (fun g => ?_))
    · rw [if_pos z] at h; exact h
    · rw [if_neg z, if_pos g] at h; exact h
    · rw [if_neg z, if_neg g] at h; exact h))
theorem ds_of {post : Int32 → Prop} {p q r : Int32} {fc fw fr fm ft fb fd fi : Int32} {a1 a2 a3 a4 a5 a6 a7 a8 a9 a10 a11 a12 a13 a14 a15 a16 a17 a18 : Nat → Int32} : ∀ (k : Nat), k < 9 → post (ds_fit k p q r) → wpX_operandsFit post (fc, fw, fr, fm, ft, fb, fd, fi, a1, a2, a3, a4, a5, a6, a7, a8, a9, a10, a11, a12, a13, a14, a15, a16, a17, a18) (nI k) p q r
  | 0, _, H => br_t (by decide) (ds_o9 H)
  | 1, _, H => br_f (by decide) (br_t (by decide) (ds_o9 H))
  | 2, _, H => br_f (by decide) (br_f (by decide) (br_t (by decide) (ds_wx ⟨ds_nbo _ _ _, H⟩)))
  | 3, _, H => br_f (by decide) (br_f (by decide) (br_f (by decide) (br_t (by decide) (ds_wx (ds_ab H (fun h => ds_wx (ds_ab h (fun g => ds_wx (ds_fn g)))))))))
  | 4, _, H => br_f (by decide) (br_f (by decide) (br_f (by decide) (br_f (by decide) (br_t (by decide) (ds_wx (ds_ab H (fun h => ds_wx (ds_ab h (fun g => ds_wx (ds_fn g))))))))))
  | 5, _, H => br_f (by decide) (br_f (by decide) (br_f (by decide) (br_f (by decide) (br_f (by decide) (br_t (by decide) (ds_wx (ds_ab H (fun h => ds_wx (ds_fn h)))))))))
  | 6, _, H => br_f (by decide) (br_f (by decide) (br_f (by decide) (br_f (by decide) (br_f (by decide) (br_f (by decide) (br_t (by decide) (ds_wx (ds_ab H (fun h => ds_wx (ds_ab h (fun g => ds_wx (ds_fn g))))))))))))
  | 7, _, H => br_f (by decide) (br_f (by decide) (br_f (by decide) (br_f (by decide) (br_f (by decide) (br_f (by decide) (br_f (by decide) (br_t (by decide) (ds_wx (ds_ab H (fun h => ds_wx (ds_ab h (fun g => ds_wx (ds_fn g)))))))))))))
  | 8, _, H => br_f (by decide) (br_f (by decide) (br_f (by decide) (br_f (by decide) (br_f (by decide) (br_f (by decide) (br_f (by decide) (br_f (by decide) (ds_wx (ds_ab H (fun h => ds_wx (ds_ab h (fun g => ds_wx (ds_fn g)))))))))))))
  | n + 9, h, _ => absurd h (by omega)
/-- what the law's flag x6 says of a constraint -/
def ds_C (x0 x1 x2 x3 x6 : Int32) : Prop := ∀ (ψ : Int32 → St2 → Prop) (fw fr fm ft fb fd fi : Int32) (a1 a2 a3 a4 a5 a6 a7 a8 a9 a10 a11 a12 a13 a14 a15 a16 a17 a18 : Nat → Int32), (x6 = 0 → ψ (-1000) (0, fw, fr, fm, ft, fb, fd, fi, a1, a2, a3, a4, a5, a6, a7, a8, a9, a10, a11, a12, a13, a14, a15, a16, a17, a18)) → (¬ x6 = 0 → ∀ b2 b3 b4 b5, ψ 1 (1, fw, fr, fm, ft, fb, fd, fi, a1, b2, b3, b4, b5, a6, a7, a8, a9, a10, a11, a12, a13, a14, a15, a16, a17, a18)) → wpX_constraint ψ (0, fw, fr, fm, ft, fb, fd, fi, a1, a2, a3, a4, a5, a6, a7, a8, a9, a10, a11, a12, a13, a14, a15, a16, a17, a18) x0 x1 x2 x3
theorem ds_Cbad {x0 x1 x2 x3 : Int32} (h : x0 < 0 ∨ 8 < x0) : ds_C x0 x1 x2 x3 0 := by
  intro ψ fw fr fm ft fb fd fi a1 a2 a3 a4 a5 a6 a7 a8 a9 a10 a11 a12 a13 a14 a15 a16 a17 a18 H _
  refine br_t (by decide) (br_c (fun _ => H rfl) (fun z => br_c (fun _ => H rfl) (fun g => ?_)))
  rcases h with h | h
  · exact absurd h z
  · exact absurd h g
theorem ds_Cfit {x1 x2 x3 x6 : Int32} {k : Nat} (hk : k < 9) (h : x6 = 0 ↔ ds_fit k x1 x2 x3 = 0) : ds_C (nI k) x1 x2 x3 x6 := by
  intro ψ fw fr fm ft fb fd fi a1 a2 a3 a4 a5 a6 a7 a8 a9 a10 a11 a12 a13 a14 a15 a16 a17 a18 H G
  refine br_t (by decide) (br_f (nI_pos (by omega)) (pk_lt 8 k (fun z => absurd z (by omega)) (fun _ => ds_of k hk (ek_if h.symm H (fun z => ?_)))))
  exact ⟨pk_in 0 10 (by omega), nm_e ⟨pk_in 0 10 (by omega), nm_e ⟨pk_in 0 10 (by omega), nm_e ⟨pk_in 0 10 (by omega), nm_e (nm_r (e' := 1) (by decide) (G z _ _ _ _))⟩⟩⟩⟩
end
section
theorem ds_i1 {post : Int32 → Prop} {u : St0} {v : Nat} (hv : v < 4) (H : post 1) : wpL_in post u (nI v) 0 3 :=
  br_f (nI_pos (by omega)) (pk_lt 3 v (fun z => absurd z (by omega)) (fun _ => H))
theorem ds_i0 {post : Int32 → Prop} {u : St0} {x : Int32} (h : x < 0 ∨ 3 < x) (H : post 0) : wpL_in post u x 0 3 :=
  br_c (fun _ => H) (fun z => br_t (h.resolve_left z) H)
theorem ds_j1 {post : Int32 → Prop} {u : St0} {v : Nat} (hv : v < 64) (H : post 1) : wpL_in post u (nI v) 0 63 :=
  br_f (nI_pos (by omega)) (pk_lt 63 v (fun z => absurd z (by omega)) (fun _ => H))
theorem ds_j0 {post : Int32 → Prop} {u : St0} {x : Int32} (h : x < 0 ∨ 63 < x) (H : post 0) : wpL_in post u x 0 63 :=
  br_c (fun _ => H) (fun z => br_t (h.resolve_left z) H)
theorem ds_k1 {post : Int32 → Prop} {u : St0} {v : Nat} (hv : v < 9) (H : post 1) : wpL_in post u (nI v) 0 8 :=
  br_f (nI_pos (by omega)) (pk_lt 8 v (fun z => absurd z (by omega)) (fun _ => H))
theorem ds_k0 {post : Int32 → Prop} {u : St0} {x : Int32} (h : x < 0 ∨ 8 < x) (H : post 0) : wpL_in post u x 0 8 :=
  br_c (fun _ => H) (fun z => br_t (h.resolve_left z) H)
theorem ds_fbad {post : Int32 → St2 → Prop} {fc fw fr fm ft fb fd fi : Int32} {a1 a2 a3 a4 a5 a6 a7 a8 a9 a10 a11 a12 a13 a14 a15 a16 a17 a18 : Nat → Int32} {x : Int32} (h : x < 0 ∨ 3 < x) (H : post (-1000) (fc, fw, fr, fm, ft, fb, fd, fi, a1, a2, a3, a4, a5, a6, a7, a8, a9, a10, a11, a12, a13, a14, a15, a16, a17, a18)) : wpX_first post (fc, fw, fr, fm, ft, fb, fd, fi, a1, a2, a3, a4, a5, a6, a7, a8, a9, a10, a11, a12, a13, a14, a15, a16, a17, a18) x :=
  br_c (fun _ => H) (fun z => br_f (Int32.not_le.mpr (h.resolve_left z)) H)
theorem ds_pbad {post : Int32 → St2 → Prop} {fc fw fr fm ft fb fd fi : Int32} {a1 a2 a3 a4 a5 a6 a7 a8 a9 a10 a11 a12 a13 a14 a15 a16 a17 a18 : Nat → Int32} {x : Int32} (h : x < 0 ∨ 3 < x) (H : post (-1000) (fc, fw, fr, fm, ft, fb, fd, fi, a1, a2, a3, a4, a5, a6, a7, a8, a9, a10, a11, a12, a13, a14, a15, a16, a17, a18)) : wpX_possible post (fc, fw, fr, fm, ft, fb, fd, fi, a1, a2, a3, a4, a5, a6, a7, a8, a9, a10, a11, a12, a13, a14, a15, a16, a17, a18) x :=
  br_c (fun _ => H) (fun z => br_f (Int32.not_le.mpr (h.resolve_left z)) H)
theorem ds_dg {post : Int32 → St2 → Prop} {fc fw fr fm ft fb fd fi : Int32} {a1 a2 a3 a4 a5 a6 a7 a8 a9 a10 a11 a12 a13 a14 a15 a16 a17 a18 : Nat → Int32} {v S : Nat} (hv : v < 4) (hS : S < 64) (H : post 1 (fc, fw, fr, fm, ft, fb, fd, fi, upd a1 v (nI S), a2, a3, a4, a5, a6, a7, a8, a9, a10, a11, a12, a13, a14, a15, a16, a17, a18)) : wpX_domain post (fc, fw, fr, fm, ft, fb, fd, fi, a1, a2, a3, a4, a5, a6, a7, a8, a9, a10, a11, a12, a13, a14, a15, a16, a17, a18) (nI v) (nI S) :=
  br_f (nI_pos (by omega)) (pk_lt 3 v (fun z => absurd z (by omega)) (fun _ => br_f (nI_pos (by omega)) (pk_le S 63 (fun _ => ⟨pk_in v 4 hv, nm_r (e' := upd a1 v (nI S)) (by rw [nI_clamp (by omega), ds_tb S hS]) H⟩) (fun z => absurd z (by omega)))))
theorem ds_db1 {post : Int32 → St2 → Prop} {fc fw fr fm ft fb fd fi : Int32} {a1 a2 a3 a4 a5 a6 a7 a8 a9 a10 a11 a12 a13 a14 a15 a16 a17 a18 : Nat → Int32} {x y : Int32} (h : x < 0 ∨ 3 < x) (H : post 0 (fc, fw, fr, fm, ft, fb, fd, fi, a1, a2, a3, a4, a5, a6, a7, a8, a9, a10, a11, a12, a13, a14, a15, a16, a17, a18)) : wpX_domain post (fc, fw, fr, fm, ft, fb, fd, fi, a1, a2, a3, a4, a5, a6, a7, a8, a9, a10, a11, a12, a13, a14, a15, a16, a17, a18) x y :=
  br_c (fun _ => H) (fun z => br_t (h.resolve_left z) H)
theorem ds_db2 {post : Int32 → St2 → Prop} {fc fw fr fm ft fb fd fi : Int32} {a1 a2 a3 a4 a5 a6 a7 a8 a9 a10 a11 a12 a13 a14 a15 a16 a17 a18 : Nat → Int32} {x : Int32} {v : Nat} (hv : v < 4) (h : x < 0 ∨ 63 < x) (H : post 0 (fc, fw, fr, fm, ft, fb, fd, fi, a1, a2, a3, a4, a5, a6, a7, a8, a9, a10, a11, a12, a13, a14, a15, a16, a17, a18)) : wpX_domain post (fc, fw, fr, fm, ft, fb, fd, fi, a1, a2, a3, a4, a5, a6, a7, a8, a9, a10, a11, a12, a13, a14, a15, a16, a17, a18) (nI v) x :=
  br_f (nI_pos (by omega)) (pk_lt 3 v (fun z => absurd z (by omega)) (fun _ => br_c (fun _ => H) (fun z => br_f (Int32.not_le.mpr (h.resolve_left z)) H)))
theorem ds_333 {post : Int32 → St0 → Prop} {mc ms kc ks : Nat} {z : Int32} (H : post 1 ()) : wL_lawOf_333 post mc ms z z kc ks := br_t rfl H
theorem ds_292v {post : Int32 → St0 → Prop} {mc ms kc ks : Nat} {fr fm ft fb fd fi : Int32} {a1 a2 a3 a4 a5 a6 a7 a8 a9 a10 a11 a12 a13 a14 a15 a16 a17 a18 : Nat → Int32} {v S : Nat} {z : Int32} (hv : v < 4) (hS : S < 64) (h1 : ∀ j, j < 4 → a1 j = nI (ds_dm v S j)) (H : post 1 ()) :
    wL_lawOf_292 post mc ms (nI v) (nI (ds_cnt S 6)) (nI (ds_low S)) z z kc ks 0 2 fr fm ft fb fd fi a1 a2 a3 a4 a5 a6 a7 a8 a9 a10 a11 a12 a13 a14 a15 a16 a17 a18 := by
  refine br_t rfl (ds_fs (s := ds_dm v S) hv (ds_d64 hS) (fun j _ e => by rw [ds_dn e]; decide) h1 ?_)
  rw [ds_dv]
  intro _ _ _ _ _ _ _ _ _ _
  refine ds_i1 hv (br_f (by decide) ?_)
  by_cases hz : S = 0
  · rw [if_pos hz, hz]
    exact br_t rfl (ds_333 H)
  · rw [if_neg hz]
    have hc := ds_cle S hS
    exact br_f (nI_ne0 (ds_cpos S hS (by omega)) (by omega)) (ds_333 H)
theorem ds_292b {post : Int32 → St0 → Prop} {mc ms kc ks : Nat} {fc fw fr fm ft fb fd fi : Int32} {a1 a2 a3 a4 a5 a6 a7 a8 a9 a10 a11 a12 a13 a14 a15 a16 a17 a18 : Nat → Int32} {x x9 x10 z : Int32} (hx : x < 0 ∨ 3 < x) (H : post 1 ()) :
    wL_lawOf_292 post mc ms x x9 x10 z z kc ks fc fw fr fm ft fb fd fi a1 a2 a3 a4 a5 a6 a7 a8 a9 a10 a11 a12 a13 a14 a15 a16 a17 a18 :=
  br_t rfl (ds_fbad hx (ds_i0 hx (br_t rfl (ds_333 H))))
theorem ds_230v {post : Int32 → St0 → Prop} {mc ms kc ks : Nat} {fr fm ft fb fd fi : Int32} {a1 a2 a3 a4 a5 a6 a7 a8 a9 a10 a11 a12 a13 a14 a15 a16 a17 a18 : Nat → Int32} {v S : Nat} {x5 x7 z : Int32} (hv : v < 4) (hS : S < 64)
    (hd : ∀ ψ : Int32 → St2 → Prop, (∀ b1, (∀ j, j < 4 → b1 j = nI (ds_dm v S j)) → ψ x7 (0, 2, fr, fm, ft, fb, fd, fi, b1, a2, a3, a4, a5, a6, a7, a8, a9, a10, a11, a12, a13, a14, a15, a16, a17, a18)) → wpX_domain ψ (0, 2, fr, fm, ft, fb, fd, fi, a1, a2, a3, a4, a5, a6, a7, a8, a9, a10, a11, a12, a13, a14, a15, a16, a17, a18) (nI v) x5) (H : post 1 ()) :
    wL_lawOf_230 post mc ms (nI v) x5 x7 (nI S) (nI (ds_cnt S 6)) (nI (ds_low S)) z z kc ks 0 2 fr fm ft fb fd fi a1 a2 a3 a4 a5 a6 a7 a8 a9 a10 a11 a12 a13 a14 a15 a16 a17 a18 := by
  refine br_t rfl (hd _ (fun b1 h1 => br_t rfl (ds_co (ds_d64 hS) h1 (fun _ _ _ _ _ _ _ _ _ _ => br_t (ds_dpr v hv S hS) (ds_po hv (ds_d64 hS) (fun j _ e => by rw [ds_dn e]; decide) h1 ?_)))))
  rw [ds_dv]
  exact fun _ _ _ _ _ _ _ _ _ _ => ds_i1 hv (br_f (by decide) (ds_292v hv hS h1 H))
theorem ds_230b {post : Int32 → St0 → Prop} {mc ms kc ks : Nat} {fr fm ft fb fd fi : Int32} {a1 a2 a3 a4 a5 a6 a7 a8 a9 a10 a11 a12 a13 a14 a15 a16 a17 a18 : Nat → Int32} {x4 x5 x8 x10 z : Int32} (hx : x4 < 0 ∨ 3 < x4) (h1 : ∀ j, j < 4 → a1 j = nI (ds_dm 0 63 j)) (H : post 1 ()) :
    wL_lawOf_230 post mc ms x4 x5 0 x8 (nI (ds_cnt 63 6)) x10 z z kc ks 0 2 fr fm ft fb fd fi a1 a2 a3 a4 a5 a6 a7 a8 a9 a10 a11 a12 a13 a14 a15 a16 a17 a18 :=
  br_t rfl (ds_db1 hx (br_t rfl (ds_co (ds_d64 (by decide)) h1 (fun _ _ _ _ _ _ _ _ _ _ => br_t (ds_dpr 0 (by decide) 63 (by decide)) (ds_pbad hx (ds_i0 hx (br_t rfl (ds_292b hx H))))))))
/-- what is left of the law behind the constructor, the constraint and its drop -/
def ds_K (post : Int32 → St0 → Prop) (mc ms : Nat) (x4 x5 x7 x8 x9 x10 : Int32) : Prop := ∀ (kc ks : Nat) (z : Int32) (fr fm ft fb fd fi : Int32) (a1 a2 a3 a4 a5 a6 a7 a8 a9 a10 a11 a12 a13 a14 a15 a16 a17 a18 : Nat → Int32), (∀ j, j < 4 → a1 j = nI 63) → wL_lawOf_230 post mc ms x4 x5 x7 x8 x9 x10 z z kc ks 0 2 fr fm ft fb fd fi a1 a2 a3 a4 a5 a6 a7 a8 a9 a10 a11 a12 a13 a14 a15 a16 a17 a18
theorem ds_K1 {post : Int32 → St0 → Prop} {mc ms v S : Nat} (hv : v < 4) (hS : S < 64) (H : post 1 ()) : ds_K post mc ms (nI v) (nI S) 1 (nI S) (nI (ds_cnt S 6)) (nI (ds_low S)) := by
  intro kc ks z fr fm ft fb fd fi a1 a2 a3 a4 a5 a6 a7 a8 a9 a10 a11 a12 a13 a14 a15 a16 a17 a18 h1
  refine ds_230v hv hS (fun ψ G => ds_dg hv hS (G _ (fun j hj => ?_))) H
  by_cases e : j = v
  · rw [e, ds_dv, pk_us]
  · rw [ds_dn e, pk_un e]
    exact h1 j hj
theorem ds_K2 {post : Int32 → St0 → Prop} {mc ms v : Nat} {x5 : Int32} (hv : v < 4) (hx : x5 < 0 ∨ 63 < x5) (H : post 1 ()) : ds_K post mc ms (nI v) x5 0 (nI 63) (nI (ds_cnt 63 6)) (nI (ds_low 63)) := by
  intro kc ks z fr fm ft fb fd fi a1 a2 a3 a4 a5 a6 a7 a8 a9 a10 a11 a12 a13 a14 a15 a16 a17 a18 h1
  refine ds_230v hv (by decide) (fun ψ G => ds_db2 hv hx (G _ (fun j hj => ?_))) H
  by_cases e : j = v
  · rw [e, ds_dv]
    exact h1 v hv
  · rw [ds_dn e]
    exact h1 j hj
theorem ds_K3 {post : Int32 → St0 → Prop} {mc ms : Nat} {x4 x5 : Int32} (hx : x4 < 0 ∨ 3 < x4) (H : post 1 ()) : ds_K post mc ms x4 x5 0 (nI 63) (nI (ds_cnt 63 6)) (nI (ds_low 63)) := by
  intro kc ks z fr fm ft fb fd fi a1 a2 a3 a4 a5 a6 a7 a8 a9 a10 a11 a12 a13 a14 a15 a16 a17 a18 h1
  refine ds_230b hx (fun j hj => ?_) H
  by_cases e : j = 0
  · rw [e, ds_dv]
    exact h1 0 (by decide)
  · rw [ds_dn e]
    exact h1 j hj
theorem ds_207a {post : Int32 → St0 → Prop} {mc ms kc ks : Nat} {fr fm ft fb fd fi : Int32} {a1 a2 a3 a4 a5 a6 a7 a8 a9 a10 a11 a12 a13 a14 a15 a16 a17 a18 : Nat → Int32} {x4 x5 x6 x7 x8 x9 x10 z : Int32} (hK : ds_K post mc ms x4 x5 x7 x8 x9 x10) (h1 : ∀ j, j < 4 → a1 j = nI 63) (h : x6 = 0) :
    wL_lawOf_207 post mc ms x4 x5 x6 x7 x8 x9 x10 z z kc ks 0 2 fr fm ft fb fd fi a1 a2 a3 a4 a5 a6 a7 a8 a9 a10 a11 a12 a13 a14 a15 a16 a17 a18 :=
  br_t rfl (br_f (by decide) (br_f (by decide) (br_t h (hK _ _ _ _ _ _ _ _ _ _ _ _ _ _ _ _ _ _ _ _ _ _ _ _ _ _ _ h1))))
theorem ds_207b {post : Int32 → St0 → Prop} {mc ms kc ks : Nat} {fr fm ft fb fd fi : Int32} {a1 a2 a3 a4 a5 a6 a7 a8 a9 a10 a11 a12 a13 a14 a15 a16 a17 a18 : Nat → Int32} {x4 x5 x6 x7 x8 x9 x10 z : Int32} (hK : ds_K post mc ms x4 x5 x7 x8 x9 x10) (h1 : ∀ j, j < 4 → a1 j = nI 63) (h : ¬ x6 = 0) :
    wL_lawOf_207 post mc ms x4 x5 x6 x7 x8 x9 x10 z z kc ks 1 2 fr fm ft fb fd fi a1 a2 a3 a4 a5 a6 a7 a8 a9 a10 a11 a12 a13 a14 a15 a16 a17 a18 :=
  br_t rfl (br_f (by decide) (br_t (by decide) (nm_r (e' := 0) (by decide) ⟨1, br_t (by decide) (br_f h (hK _ _ _ _ _ _ _ _ _ _ _ _ _ _ _ _ _ _ _ _ _ _ _ _ _ _ _ h1))⟩)))
theorem ds_ini {post : St2 → Prop} {mc ms : Nat} (hc : 18 ≤ mc) (hm : 3486 ≤ ms) (H : ∀ b1, (∀ j, j < 4 → b1 j = nI 63) → post (0, 2, 0, 0, 0, 0, 0, 0, b1, (fun _ => 0), (fun _ => 0), (fun _ => 0), (fun _ => 0), (fun _ => 0), (fun _ => 0), (fun _ => 0), (fun _ => 0), (fun _ => 0), (fun _ => 0), (fun _ => 0), (fun _ => 0), (fun _ => 0), (fun _ => 0), (fun _ => 0), (fun _ => 0), (fun _ => 0))) :
    wpX_init post mc ms (0, 0, 0, 0, 0, 0, 0, 0) := by
  refine ⟨by omega, by omega, by omega, by omega, by omega, by omega, by omega, by omega, by omega, by omega, by omega, by omega, by omega, by omega, by omega, by omega, by omega, by omega, by omega, by omega, by omega, by omega, by omega, by omega, by omega, by omega, by omega, by omega, by omega, by omega, by omega, by omega, by omega, by omega, by omega, by omega, ?_⟩
  refine pk_loop (fun n i t => wX_init_152 post mc ms 18 3486 0 2 0 0 0 0 0 0 n (nI i) t (fun _ => 0) (fun _ => 0) (fun _ => 0) (fun _ => 0) (fun _ => 0) (fun _ => 0) (fun _ => 0) (fun _ => 0) (fun _ => 0) (fun _ => 0) (fun _ => 0) (fun _ => 0) (fun _ => 0) (fun _ => 0) (fun _ => 0) (fun _ => 0) (fun _ => 0)) (fun i t => ∀ j, j < i → t j = nI 63) 4 0 (fun _ => 0) (by omega) (fun j hj => absurd hj (by omega)) ?_ ?_
  · intro n t h
    exact pk_le 4 4 (fun _ => H t h) (fun z => absurd z (by omega))
  · intro n i t hi h hw
    refine pk_le 4 i (fun z => absurd z (by omega)) (fun _ => ⟨pk_in i 4 hi, nm_r (e' := upd t i (nI 63)) (by rw [nI_clamp (by omega)]; rfl) (nm_r (nI_1 i) (hw _ (lt_s (fun j hj => ?_) pk_us)))⟩)
    show upd t i (nI 63) j = nI 63
    rw [pk_un (by omega)]
    exact h j hj
theorem ds_175 {post : Int32 → St0 → Prop} {mc ms kc ks : Nat} {x0 x1 x2 x3 x4 x5 x6 x7 x8 x9 z0 : Int32} (hc : kc + 19 ≤ mc) (hm : ks + 3512 ≤ ms) (hC : ds_C x0 x1 x2 x3 x6) (hK : ds_K post mc ms x4 x5 x7 x8 x9 z0) :
    wL_lawOf_175 post mc ms x0 x1 x2 x3 x4 x5 x6 x7 x8 x9 z0 kc ks :=
  ⟨by omega, by omega, 18, 3486, by omega, by omega, ds_ini (by omega) (by omega) (fun b1 h1 => hC _ _ _ _ _ _ _ _ _ _ _ _ _ _ _ _ _ _ _ _ _ _ _ _ _ _ (fun h => br_t h (ds_207a hK h1 h)) (fun h b2 b3 b4 b5 => br_f h (ds_207b hK h1 h)))⟩
theorem ds_67 {post : Int32 → St0 → Prop} {mc ms kc ks S : Nat} {x0 x1 x2 x3 x4 x5 x6 x7 : Int32} (hc : kc + 19 ≤ mc) (hm : ks + 3512 ≤ ms) (hS : S < 64) (hC : ds_C x0 x1 x2 x3 x6) (hK : ds_K post mc ms x4 x5 x7 (nI S) (nI (ds_cnt S 6)) (nI (ds_low S))) :
    wL_lawOf_67 post mc ms x0 x1 x2 x3 x4 x5 x6 x7 (nI S) kc ks := by
  have q : ∀ y, nI (ds_low S) = y → wL_lawOf_175 post mc ms x0 x1 x2 x3 x4 x5 x6 x7 (nI S) (nI (ds_cnt S 6)) y kc ks := fun y e => e ▸ ds_175 hc hm hC hK
  refine nm_r (ds_ones S hS) ?_
  exact br_c (fun c0 => q _ (by rw [ds_l0 S hS c0]; rfl)) (fun c0 => br_c (fun c1 => q _ (by rw [ds_l1 S hS c0 c1]; rfl)) (fun c1 => br_c (fun c2 => q _ (by rw [ds_l2 S hS c0 c1 c2]; rfl)) (fun c2 => br_c (fun c3 => q _ (by rw [ds_l3 S hS c0 c1 c2 c3]; rfl)) (fun c3 => br_c (fun c4 => q _ (by rw [ds_l4 S hS c0 c1 c2 c3 c4]; rfl)) (fun c4 => q _ (by rw [ds_l5 S hS c0 c1 c2 c3 c4]; rfl))))))
theorem ds_25 {post : Int32 → St0 → Prop} {mc ms kc ks : Nat} {x0 x1 x2 x3 x4 x5 x6 : Int32} (hc : kc + 19 ≤ mc) (hm : ks + 3512 ≤ ms) (hC : ds_C x0 x1 x2 x3 x6) (H : post 1 ()) :
    wL_lawOf_25 post mc ms x0 x1 x2 x3 x4 x5 x6 kc ks := by
  by_cases hx : x4 < 0 ∨ 3 < x4
  · exact ds_i0 hx (br_t rfl (br_t rfl (ds_67 hc hm (S := 63) (by decide) hC (ds_K3 hx H))))
  · obtain ⟨v, hv, rfl⟩ := ds_wpos (fun z => hx (Or.inl z)) (fun z => hx (Or.inr z))
    refine ds_i1 hv (br_f (by decide) ?_)
    by_cases hy : x5 < 0 ∨ 63 < x5
    · exact ds_j0 hy (br_t rfl (br_t rfl (ds_67 hc hm (S := 63) (by decide) hC (ds_K2 hv hy H))))
    · obtain ⟨S, hS, rfl⟩ := ds_spos (fun z => hy (Or.inl z)) (fun z => hy (Or.inr z))
      exact ds_j1 hS (br_f (by decide) (br_f (by decide) (ds_67 hc hm hS hC (ds_K1 hv hS H))))
theorem ds_law {post : Int32 → St0 → Prop} {mc ms : Nat} {x0 x1 x2 x3 x4 x5 : Int32} (hc : 19 ≤ mc) (hm : 3512 ≤ ms) (H : post 1 ()) : wpL_lawOf post mc ms () x0 x1 x2 x3 x4 x5 := by
  by_cases hx : x0 < 0 ∨ 8 < x0
  · exact ds_k0 hx (br_t rfl (ds_25 (by omega) (by omega) (ds_Cbad hx) H))
  · obtain ⟨k, hk, rfl⟩ := ds_kpos (fun z => hx (Or.inl z)) (fun z => hx (Or.inr z))
    refine ds_k1 hk (br_f (by decide) (ds_ft k hk (br_c (fun h => ?_) (fun h => ?_))))
    · exact ds_25 (by omega) (by omega) (ds_Cfit hk ⟨fun _ => h, fun _ => rfl⟩) H
    · exact ds_25 (by omega) (by omega) (ds_Cfit hk ⟨fun z => absurd z (by decide), fun z => absurd z h⟩) H
theorem ds_ca {post : Int32 → Prop} {L : Nat} {xs : Nat → Int32} {u : St0} (hL : L ≤ 6) (i : Nat) (hi : i < 6) (H : ∀ x, post x) : wpL_cellAt post L xs u (nI i) :=
  pk_le L i (fun _ => H _) (fun z => ⟨pk_in i L z, H _⟩)
end
section
theorem i_vc (xs : Nat → Int32) (L : Nat) (hL : L ≤ 6) : wpL_law (fun r => r = 1) L xs :=
  ds_ca hL 0 (by decide) (fun _ => ds_ca hL 1 (by decide) (fun _ => ds_ca hL 2 (by decide) (fun _ => ds_ca hL 3 (by decide) (fun _ => ds_ca hL 4 (by decide) (fun _ => ds_ca hL 5 (by decide) (fun _ => ⟨19, 3512, by omega, by omega, ds_law (by omega) (by omega) rfl⟩))))))
end
