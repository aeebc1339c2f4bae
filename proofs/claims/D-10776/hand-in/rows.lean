section
/-! ===== plain rows ===== -/
theorem wm_p : ¬ (7681 : Int32) = 0 := by decide
theorem wm_rem {a : Nat} (ha : a < 2 ^ 31) : nI a - nI a / 7681 * 7681 = nI (a % 7681) := pk_rem (d := 7681) ha (by decide) (by decide)
theorem wm_cl (o i : Nat) (h : o + i < 2 ^ 31) : (nI o + nI i).toNatClampNeg = o + i := pk_cl (o + i) (nI_add o i) h
theorem wm_mm {x y : Nat} (hx : x < 7681) (hy : y < 7681) : x * y < 2 ^ 31 := by
  have h1 : x * y ≤ 7681 * 7681 := Nat.mul_le_mul (Nat.le_of_lt hx) (Nat.le_of_lt hy)
  omega
theorem wm_swap {a : Nat → Int32} {p q : Nat} (e : a p = a q) : upd (upd a p (a q)) q (a p) = a := by
  funext j
  by_cases h : j = q
  · rw [h, pk_us, e]
  · rw [pk_un h]
    by_cases h2 : j = p
    · rw [h2, pk_us, e]
    · rw [pk_un h2]
theorem wm_u1 {a : Nat → Int32} {p q : Nat} {x y : Int32} : upd (upd a p x) q y q = y := pk_us
theorem wm_u2 {a : Nat → Int32} {p q : Nat} {x y : Int32} (h : p ≠ q) : upd (upd a p x) q y p = x := by rw [pk_un h, pk_us]
theorem wm_u3 {a : Nat → Int32} {p q j : Nat} {x y : Int32} (h : j ≠ p) (h2 : j ≠ q) : upd (upd a p x) q y j = a j := by rw [pk_un h2, pk_un h]
/-! ===== clearSum, butterfly, turnedBits ===== -/
section
variable {post : St2 → Prop} {f0 f1 f2 : Int32} {a1 a2 a3 a4 a5 a6 : Nat → Int32}
theorem wm_clear (H : ∀ a, (∀ j, j < 64 → a (128 + j) = nI 0) → post (f0, f1, f2, a1, a2, a3, a, a5, a6)) : wpX_clearSum post (f0, f1, f2, a1, a2, a3, a4, a5, a6) :=
  pk_loop (fun n i s => wX_clearSum_2 post f0 f1 f2 n (nI i) a1 a2 a3 s a5 a6) (fun i s => ∀ j, j < i → s (128 + j) = nI 0) 64 0 a4 (by omega) (fun j hj => absurd hj (by omega))
    (fun n s h => pk_le 64 64 (fun _ => H s h) (fun z => absurd z (by omega)))
    (fun n i s hi h hw => pk_le 64 i (fun z => absurd z (by omega)) (fun _ => ⟨pk_in (128 + i) 192 (by omega) (nI_add 128 i), nm_r (congrArg (fun k => upd s k 0) (wm_cl 128 i (by omega))) (nm_r (nI_1 i) (hw _ (fun j hj => by
      by_cases e : j = i
      · rw [e, pk_us]; rfl
      · rw [pk_un (by omega)]; exact h j (by omega))))⟩))
theorem wm_bf {p0 p1 p2 : Int32} {lo hi pw x y : Nat} (hlo : lo < 192) (hhi : hi < 192) (hpw : pw < 64) (e0 : p0 = nI lo) (e1 : p1 = nI hi) (e2 : p2 = nI pw)
    (hx : x < 7681) (hy : y < 7681) (ex : a4 lo = nI x) (ey : a4 hi * a3 pw = nI y)
    (H : post (f0, f1, f2, a1, a2, a3, upd (upd a4 lo (nI ((x + y) % 7681))) hi (nI ((x + 7681 - y) % 7681)), a5, a6)) :
    wpX_butterfly post (f0, f1, f2, a1, a2, a3, a4, a5, a6) p0 p1 p2 := by
  subst e0 e1 e2
  have c0 : (nI lo).toNatClampNeg = lo := nI_clamp (by omega)
  have c1 : (nI hi).toNatClampNeg = hi := nI_clamp (by omega)
  have c2 : (nI pw).toNatClampNeg = pw := nI_clamp (by omega)
  have s1 : nI x + nI y - (nI x + nI y) / 7681 * 7681 = nI ((x + y) % 7681) := by
    rw [nI_add]; exact wm_rem (by omega)
  have s2 : (nI x + 7681 - nI y) - (nI x + 7681 - nI y) / 7681 * 7681 = nI ((x + 7681 - y) % 7681) := by
    rw [show nI x + 7681 = nI (x + 7681) from nI_add x 7681, pk_sub (by omega)]; exact wm_rem (by omega)
  refine ⟨pk_in lo 192 hlo, nm_r (e' := nI x) (by rw [c0]; exact ex) ⟨pk_in hi 192 hhi, pk_in pw 64 hpw, wm_p, nm_r (e' := nI y) ?_ ⟨wm_p, pk_in lo 192 hlo, nm_r (e' := upd a4 lo (nI ((x + y) % 7681))) ?_ ⟨wm_p, pk_in hi 192 hhi, nm_r (e' := upd (upd a4 lo (nI ((x + y) % 7681))) hi (nI ((x + 7681 - y) % 7681))) ?_ H⟩⟩⟩⟩
  · rw [c1, c2, ey, wm_rem (by omega), Nat.mod_eq_of_lt hy]
  · rw [c0, s1]
  · rw [c1, s2]
end
def wm_rvn : Nat → Int32 → Int32 → Int32 → Int32
  | 0, _, r, _ => r
  | n + 1, x, r, b => wm_rvn n x (r ||| (((x >>> (b &&& 31)) &&& 1) <<< ((5 - b) &&& 31))) (b + 1)
def wm_rv (x : Int32) : Int32 := wm_rvn 6 x 0 0
theorem wm_rvd : ∀ k, k < 64 → (wm_rv (nI k)).toNatClampNeg < 64 ∧ wm_rv (nI k) = nI (wm_rv (nI k)).toNatClampNeg ∧ (k = 0 → (wm_rv (nI k)).toNatClampNeg = 0) := by decide +kernel
theorem wm_rvo (k : Nat) (hk : k < 64) : ∃ r : Nat, r < 64 ∧ wm_rv (nI k) = nI r ∧ (k = 0 → r = 0) := ⟨_, (wm_rvd k hk).1, (wm_rvd k hk).2.1, (wm_rvd k hk).2.2⟩
theorem wm_turn {post : Int32 → Prop} {f0 f1 f2 : Int32} {a1 a2 a3 a4 a5 a6 : Nat → Int32} {x y : Int32} (e : wm_rv x = y) (H : post y) : wpX_turnedBits post (f0, f1, f2, a1, a2, a3, a4, a5, a6) x := by
  subst e
  exact ⟨7, br_f (by decide) (nm_e (nm_e (br_f (by decide) (nm_e (nm_e (br_f (by decide) (nm_e (nm_e (br_f (by decide) (nm_e (nm_e (br_f (by decide) (nm_e (nm_e (br_f (by decide) (nm_e (nm_e (br_t (by decide) H))))))))))))))))))⟩
/-! ===== the transform's first loop: nothing moves, for all places but the first hold one value ===== -/
section
variable {post : St2 → Prop} {f0 f1 f2 : Int32} {a1 a2 a3 a4 a5 a6 : Nat → Int32}
theorem wm_bits {x2 : Int32} {o : Nat} (ho : o + 64 ≤ 192) (hc : ∀ j k, 0 < j → 0 < k → j < 64 → k < 64 → a4 (o + j) = a4 (o + k))
    (H : ∃ n, wX_transform_70 post (nI o) x2 n 1 f0 f1 f2 a1 a2 a3 a4 a5 a6) : wpX_transform post (f0, f1, f2, a1, a2, a3, a4, a5, a6) (nI o) x2 := by
  refine pk_loop (σ := Unit) (fun n i _ => wX_transform_2 post (nI o) x2 f0 f1 f2 n (nI i) a1 a2 a3 a4 a5 a6) (fun _ _ => True) 64 0 () (by omega) trivial (fun n _ _ => pk_le 64 64 (fun _ => H) (fun z => absurd z (by omega))) (fun n i _ hi _ hw => pk_le 64 i (fun z => absurd z (by omega)) (fun _ => ?_))
  obtain ⟨r, hr, er, h0⟩ := wm_rvo i hi
  refine wm_turn er (pk_lt i r (fun hlt => ?_) (fun _ => nm_r (nI_1 i) (hw () trivial)))
  have i0 : 0 < i := by
    rcases Nat.eq_zero_or_pos i with z | z
    · have := h0 z; omega
    · exact z
  refine ⟨pk_in (o + i) 192 (by omega) (nI_add o i), nm_e ⟨pk_in (o + r) 192 (by omega) (nI_add o r), pk_in (o + i) 192 (by omega) (nI_add o i), nm_e ⟨pk_in (o + r) 192 (by omega) (nI_add o r), nm_r (e' := a4) ?_ (nm_r (nI_1 i) (hw () trivial))⟩⟩⟩
  rw [wm_cl o i (by omega), wm_cl o r (by omega)]
  exact wm_swap (hc i r i0 (by omega) hi hr)
end
/-! ===== one butterfly of the second loop ===== -/
def wm_lo (h k : Nat) : Nat := k / h * 2 * h + k % h
section
variable {post : St2 → Prop} {f0 f1 f2 : Int32} {a1 a2 a3 a4 a5 a6 : Nat → Int32} {J : Int32 → Int32 → Int32 → Int32 → (Nat → Int32) → (Nat → Int32) → (Nat → Int32) → (Nat → Int32) → (Nat → Int32) → (Nat → Int32) → Prop}
theorem wm_step {x2 : Int32} {o h k n x y : Nat} (ho : o + 64 ≤ 192) (hk : k < 32) (h0 : 0 < h) (h32 : h ≤ 32) (hl : wm_lo h k + h < 64) (hp : k % h * (32 / h) < 32)
    (hx : x < 7681) (hy : y < 7681) (ex : a4 (o + wm_lo h k) = nI x) (ey : ∀ p, p < 64 → (k % h = 0 → p = 0) → a4 (o + (wm_lo h k + h)) * a3 p = nI y)
    (H : wX_transform_79 post J (nI o) x2 (nI h) n (nI (k + 1)) f0 f1 f2 a1 a2 a3 (upd (upd a4 (o + wm_lo h k) (nI ((x + y) % 7681))) (o + (wm_lo h k + h)) (nI ((x + 7681 - y) % 7681))) a5 a6) :
    wX_transform_79 post J (nI o) x2 (nI h) (n + 1) (nI k) f0 f1 f2 a1 a2 a3 a4 a5 a6 := by
  have hne : ¬ nI h = 0 := nI_ne0 h0 (by omega)
  have e5 : nI k - nI k / nI h * nI h = nI (k % h) := pk_rem (by omega) h0 (by omega)
  have e6 : nI o + nI k / nI h * 2 * nI h + nI (k % h) = nI (o + wm_lo h k) := by
    rw [pk_div (by omega) h0 (by omega), show (2 : Int32) = nI 2 from rfl, pk_mul, pk_mul, nI_add, nI_add, Nat.add_assoc]
    rfl
  have e7 : nI (k % h) * (32 / nI h) = nI (k % h * (32 / h)) := by
    rw [show (32 : Int32) / nI h = nI (32 / h) from pk_div (a := 32) (by omega) h0 (by omega), pk_mul]
  have e8 : nI (o + wm_lo h k) + nI h = nI (o + (wm_lo h k + h)) := by rw [nI_add, Nat.add_assoc]
  have go : ∀ (p : Nat) (P : Int32), P = nI p → p < 64 → (k % h = 0 → p = 0) → wX_transform_142 post J (wX_transform_79 post J (nI o) x2 (nI h) n) (nI o) x2 (nI h) (nI k) P (nI (o + wm_lo h k) + nI h) (nI (o + wm_lo h k)) f0 f1 f2 a1 a2 a3 a4 a5 a6 := by
    intro p P eP hp64 hp0
    unfold wX_transform_142
    exact wm_bf (by omega) (by omega) hp64 rfl e8 eP hx hy ex (ey p hp64 hp0) (nm_r (nI_1 k) H)
  have z0 : k % h = 0 → k % h * (32 / h) = 0 := fun z => by rw [z, Nat.zero_mul]
  refine pk_le 32 k (fun z => absurd z (by omega)) (fun _ => ⟨hne, nm_r e5 ⟨hne, nm_r e6 ⟨hne, nm_r e7 (br_c (fun _ => ?_) (fun _ => pk_le (k % h * (32 / h)) 0 (fun _ => ?_) (fun zp => ?_)))⟩⟩⟩)
  · exact go _ _ rfl (by omega) z0
  · exact go _ _ rfl (by omega) z0
  · exact go (64 - k % h * (32 / h)) _ (pk_sub (a := 64) (by omega)) (by omega) (fun z => absurd (z0 z) (by omega))
end
end
section
/-! ===== the places that the second loop meets ===== -/
theorem wm_ix : ∀ s, s < 6 → ∀ k, k < 32 → wm_lo (2 ^ s) k + 2 ^ s < 64 ∧ k % 2 ^ s * (32 / 2 ^ s) < 32 ∧ (k < 2 ^ s → wm_lo (2 ^ s) k = k) ∧ (2 ^ s ≤ k → 2 ^ s + 2 ^ s ≤ wm_lo (2 ^ s) k) := by decide +kernel
theorem wm_2s : ∀ s, s < 6 → 0 < (2 : Nat) ^ s ∧ (2 : Nat) ^ s ≤ 32 := by decide +kernel
theorem wm_z0 (z : Int32) : nI 0 * z = nI 0 := by
  rw [nI_0]
  simp
def wm_G (v c i : Nat) : Int32 := if i < c then nI v else nI 0
theorem wm_G1 {v c i : Nat} (h : i < c) : wm_G v c i = nI v := if_pos h
theorem wm_G0 {v c i : Nat} (h : c ≤ i) : wm_G v c i = nI 0 := if_neg (Nat.not_lt.mpr h)
section
variable {post : St2 → Prop} {f0 f1 f2 : Int32} {a1 a2 a3 a4 a5 a6 : Nat → Int32} {J : Int32 → Int32 → Int32 → Int32 → (Nat → Int32) → (Nat → Int32) → (Nat → Int32) → (Nat → Int32) → (Nat → Int32) → (Nat → Int32) → Prop}
/-- a stage of the transform there: what lies in the first h places spreads to the first 2 h -/
theorem wm_fst {o h v : Nat} (ho : o + 64 ≤ 192) (h0 : 0 < h) (h32 : h ≤ 32)
    (hix : ∀ k, k < 32 → wm_lo h k + h < 64 ∧ k % h * (32 / h) < 32 ∧ (k < h → wm_lo h k = k) ∧ (h ≤ k → h + h ≤ wm_lo h k))
    (hv : v < 7681) (g : ∀ i, i < 64 → a4 (o + i) = wm_G v h i)
    (H : ∀ a, (∀ i, i < 64 → a (o + i) = wm_G v (h * 2) i) → (∀ j, (j < o ∨ o + 64 ≤ j) → a j = a4 j) → J (nI (h * 2)) f0 f1 f2 a1 a2 a3 a a5 a6) :
    ∃ n, wX_transform_79 post J (nI o) 0 (nI h) n 0 f0 f1 f2 a1 a2 a3 a4 a5 a6 := by
  refine pk_loop (fun n k a => wX_transform_79 post J (nI o) 0 (nI h) n (nI k) f0 f1 f2 a1 a2 a3 a a5 a6) (fun k a => (∀ i, i < 64 → a (o + i) = wm_G v (h + min k h) i) ∧ ∀ j, (j < o ∨ o + 64 ≤ j) → a j = a4 j) 32 0 a4 (by omega) ⟨fun i hi => ?_, fun _ _ => rfl⟩ (fun n a hI => ?_) (fun n k a hk hI hw => ?_)
  · rw [Nat.zero_min]
    exact g i hi
  · refine pk_le 32 32 (fun _ => nm_r (pk_mul h 2) (H a (fun i hi => ?_) hI.2)) (fun z => absurd z (by omega))
    have t := hI.1 i hi
    rw [show h + min 32 h = h * 2 by omega] at t
    exact t
  · obtain ⟨ha, hb⟩ := hI
    obtain ⟨q1, q2, q3, q4⟩ := hix k hk
    have key : ∃ x, x < 7681 ∧ a (o + wm_lo h k) = nI x ∧ a (o + (wm_lo h k + h)) = nI 0 ∧ ∀ i, i < 64 → upd (upd a (o + wm_lo h k) (nI x)) (o + (wm_lo h k + h)) (nI x) (o + i) = wm_G v (h + min (k + 1) h) i := by
      by_cases c : k < h
      · have el := q3 c
        refine ⟨v, hv, ?_, ?_, fun i hi => ?_⟩
        · rw [ha (wm_lo h k) (by omega)]
          exact wm_G1 (by omega)
        · rw [ha (wm_lo h k + h) (by omega)]
          exact wm_G0 (by omega)
        · by_cases e1 : i = wm_lo h k + h
          · rw [e1, pk_us]
            exact (wm_G1 (by omega)).symm
          · by_cases e2 : i = wm_lo h k
            · rw [e2, pk_un (by omega), pk_us]
              exact (wm_G1 (by omega)).symm
            · rw [wm_u3 (by omega) (by omega), ha i hi]
              by_cases e3 : i < h + min k h
              · rw [wm_G1 e3, wm_G1 (by omega)]
              · rw [wm_G0 (by omega), wm_G0 (by omega)]
      · have el := q4 (by omega)
        refine ⟨0, by omega, ?_, ?_, fun i hi => ?_⟩
        · rw [ha (wm_lo h k) (by omega)]
          exact wm_G0 (by omega)
        · rw [ha (wm_lo h k + h) (by omega)]
          exact wm_G0 (by omega)
        · by_cases e1 : i = wm_lo h k + h
          · rw [e1, pk_us]
            exact (wm_G0 (by omega)).symm
          · by_cases e2 : i = wm_lo h k
            · rw [e2, pk_un (by omega), pk_us]
              exact (wm_G0 (by omega)).symm
            · rw [wm_u3 (by omega) (by omega), ha i hi, show h + min (k + 1) h = h + min k h by omega]
    obtain ⟨x, hx, ex, ey, hc⟩ := key
    refine wm_step (y := 0) ho hk h0 h32 q1 q2 hx (by omega) ex (fun p _ _ => by rw [ey]; exact wm_z0 _) ?_
    rw [show (x + 0) % 7681 = x by omega, show (x + 7681 - 0) % 7681 = x by omega]
    exact hw _ ⟨hc, fun j hj => by rw [wm_u3 (by omega) (by omega)]; exact hb j hj⟩
end
section
variable {post : St2 → Prop} {f0 f1 f2 : Int32} {a1 a2 a3 a4 a5 a6 : Nat → Int32}
/-- the transform of a sequence that is zero but for its first place is constant -/
theorem wm_fwd {o v : Nat} (ho : o + 64 ≤ 192) (hv : v < 7681) (g : ∀ i, i < 64 → a4 (o + i) = wm_G v 1 i)
    (H : ∀ a, (∀ i, i < 64 → a (o + i) = nI v) → (∀ j, (j < o ∨ o + 64 ≤ j) → a j = a4 j) → post (f0, f1, f2, a1, a2, a3, a, a5, a6)) :
    wpX_transform post (f0, f1, f2, a1, a2, a3, a4, a5, a6) (nI o) 0 := by
  refine wm_bits ho (fun j k hj hk hj2 hk2 => by rw [g j hj2, g k hk2, wm_G0 hj, wm_G0 hk]) ?_
  refine pk_loop (fun n s a => wX_transform_70 post (nI o) 0 n (nI (2 ^ s)) f0 f1 f2 a1 a2 a3 a a5 a6) (fun s a => (∀ i, i < 64 → a (o + i) = wm_G v (2 ^ s) i) ∧ ∀ j, (j < o ∨ o + 64 ≤ j) → a j = a4 j) 6 0 a4 (by omega) ⟨g, fun _ _ => rfl⟩ (fun n a hI => ?_) (fun n s a hs hI hw => ?_)
  · exact pk_le 64 (2 ^ 6) (fun _ => br_t rfl (H a (fun i hi => by rw [hI.1 i hi]; exact wm_G1 hi) hI.2)) (fun z => absurd z (by decide))
  · obtain ⟨p1, p2⟩ := wm_2s s hs
    exact pk_le 64 (2 ^ s) (fun z => absurd z (by omega)) (fun _ => wm_fst ho p1 p2 (wm_ix s hs) hv hI.1 (fun a' ha' hb' => hw a' ⟨ha', fun j hj => (hb' j hj).trans (hI.2 j hj)⟩))
end
/-! ===== the way back, of a constant sequence ===== -/
def wm_pi (h i : Nat) : Nat := i / (2 * h) * h + i % h
def wm_B (d h i : Nat) : Int32 := if i % h = 0 then nI d else nI 0
def wm_E (d h k i : Nat) : Int32 := if wm_pi h i < k then wm_B (2 * d % 7681) (h * 2) i else wm_B d h i
theorem wm_B1 {d h i : Nat} (e : i % h = 0) : wm_B d h i = nI d := if_pos e
theorem wm_B0 {d h i : Nat} (e : ¬ i % h = 0) : wm_B d h i = nI 0 := if_neg e
theorem wm_E1 {d h k i : Nat} (e : wm_pi h i < k) : wm_E d h k i = wm_B (2 * d % 7681) (h * 2) i := if_pos e
theorem wm_E0 {d h k i : Nat} (e : k ≤ wm_pi h i) : wm_E d h k i = wm_B d h i := if_neg (Nat.not_lt.mpr e)
theorem wm_iy : ∀ s, s < 6 → ∀ k, k < 32 → wm_pi (2 ^ s) (wm_lo (2 ^ s) k) = k ∧ wm_pi (2 ^ s) (wm_lo (2 ^ s) k + 2 ^ s) = k ∧ wm_lo (2 ^ s) k % 2 ^ s = k % 2 ^ s ∧ (wm_lo (2 ^ s) k + 2 ^ s) % 2 ^ s = k % 2 ^ s ∧ wm_lo (2 ^ s) k % (2 ^ s * 2) = k % 2 ^ s ∧ ¬ (wm_lo (2 ^ s) k + 2 ^ s) % (2 ^ s * 2) = 0 := by decide +kernel
theorem wm_iz : ∀ s, s < 6 → ∀ i, i < 64 → wm_pi (2 ^ s) i < 32 ∧ (i = wm_lo (2 ^ s) (wm_pi (2 ^ s) i) ∨ i = wm_lo (2 ^ s) (wm_pi (2 ^ s) i) + 2 ^ s) := by decide +kernel
section
variable {post : St2 → Prop} {f0 f1 f2 : Int32} {a1 a2 a3 a4 a5 a6 : Nat → Int32} {J : Int32 → Int32 → Int32 → Int32 → (Nat → Int32) → (Nat → Int32) → (Nat → Int32) → (Nat → Int32) → (Nat → Int32) → (Nat → Int32) → Prop}
/-- a stage of the transform back: of the places divisible by h every other one falls to 0, the rest double -/
theorem wm_bst {o h d : Nat} (ho : o + 64 ≤ 192) (h0 : 0 < h) (h32 : h ≤ 32)
    (hix : ∀ k, k < 32 → wm_lo h k + h < 64 ∧ k % h * (32 / h) < 32 ∧ (k < h → wm_lo h k = k) ∧ (h ≤ k → h + h ≤ wm_lo h k))
    (hiy : ∀ k, k < 32 → wm_pi h (wm_lo h k) = k ∧ wm_pi h (wm_lo h k + h) = k ∧ wm_lo h k % h = k % h ∧ (wm_lo h k + h) % h = k % h ∧ wm_lo h k % (h * 2) = k % h ∧ ¬ (wm_lo h k + h) % (h * 2) = 0)
    (hiz : ∀ i, i < 64 → wm_pi h i < 32 ∧ (i = wm_lo h (wm_pi h i) ∨ i = wm_lo h (wm_pi h i) + h))
    (hd : d < 7681) (h3 : a3 0 = 1) (g : ∀ i, i < 64 → a4 (o + i) = wm_B d h i)
    (H : ∀ a, (∀ i, i < 64 → a (o + i) = wm_B (2 * d % 7681) (h * 2) i) → J (nI (h * 2)) f0 f1 f2 a1 a2 a3 a a5 a6) :
    ∃ n, wX_transform_79 post J (nI o) 1 (nI h) n 0 f0 f1 f2 a1 a2 a3 a4 a5 a6 := by
  refine pk_loop (fun n k a => wX_transform_79 post J (nI o) 1 (nI h) n (nI k) f0 f1 f2 a1 a2 a3 a a5 a6) (fun k a => ∀ i, i < 64 → a (o + i) = wm_E d h k i) 32 0 a4 (by omega) (fun i hi => ?_) (fun n a ha => ?_) (fun n k a hk ha hw => ?_)
  · rw [wm_E0 (Nat.zero_le _)]
    exact g i hi
  · refine pk_le 32 32 (fun _ => nm_r (pk_mul h 2) (H a (fun i hi => ?_))) (fun z => absurd z (by omega))
    rw [ha i hi]
    exact wm_E1 (hiz i hi).1
  · obtain ⟨q1, q2, _, _⟩ := hix k hk
    obtain ⟨y1, y2, y3, y4, y5, y6⟩ := hiy k hk
    have key : ∃ x, x < 7681 ∧ a (o + wm_lo h k) = nI x ∧ (∀ p, p < 64 → (k % h = 0 → p = 0) → a (o + (wm_lo h k + h)) * a3 p = nI x) ∧ nI ((x + x) % 7681) = wm_B (2 * d % 7681) (h * 2) (wm_lo h k) := by
      by_cases c : k % h = 0
      · refine ⟨d, hd, ?_, fun p _ hp => ?_, ?_⟩
        · rw [ha (wm_lo h k) (by omega), wm_E0 (by omega)]
          exact wm_B1 (by omega)
        · rw [ha (wm_lo h k + h) (by omega), wm_E0 (by omega), wm_B1 (by omega), hp c, h3]
          simp
        · rw [wm_B1 (by omega), Nat.two_mul]
      · refine ⟨0, by omega, ?_, fun p _ hp => ?_, ?_⟩
        · rw [ha (wm_lo h k) (by omega), wm_E0 (by omega)]
          exact wm_B0 (by omega)
        · rw [ha (wm_lo h k + h) (by omega), wm_E0 (by omega), wm_B0 (by omega)]
          exact wm_z0 _
        · rw [wm_B0 (by omega)]
    obtain ⟨x, hx, ex, ey, exx⟩ := key
    refine wm_step (y := x) ho hk h0 h32 q1 q2 hx hx ex ey ?_
    rw [show (x + 7681 - x) % 7681 = 0 by omega, exx]
    refine hw _ (fun i hi => ?_)
    by_cases e1 : i = wm_lo h k + h
    · rw [e1, pk_us, wm_E1 (by omega), wm_B0 y6]
    · by_cases e2 : i = wm_lo h k
      · rw [e2, pk_un (by omega), pk_us, wm_E1 (by omega)]
      · rw [wm_u3 (by omega) (by omega), ha i hi]
        have ne : wm_pi h i ≠ k := by
          intro e
          have t := (hiz i hi).2
          rw [e] at t
          omega
        by_cases e3 : wm_pi h i < k
        · rw [wm_E1 e3, wm_E1 (by omega)]
        · rw [wm_E0 (by omega), wm_E0 (by omega)]
end
section
variable {post : St2 → Prop} {f0 f1 f2 : Int32} {a1 a2 a3 a4 a5 a6 : Nat → Int32}
theorem wm_div {o x c : Nat} (ho : o + 64 ≤ 192) (hx : x < 7681) (ex : a4 o = nI x) (hc : x * 7561 % 7681 = c)
    (H : ∀ a, a o = nI c → post (f0, f1, f2, a1, a2, a3, a, a5, a6)) : wpX_divideBySize post (f0, f1, f2, a1, a2, a3, a4, a5, a6) (nI o) := by
  refine pk_loop (fun n i s => wX_divideBySize_2 post (nI o) f0 f1 f2 n (nI i) a1 a2 a3 s a5 a6) (fun i s => (i = 0 → s o = nI x) ∧ (0 < i → s o = nI c)) 64 0 a4 (by omega) ⟨fun _ => ex, fun z => absurd z (by omega)⟩ (fun n s h => pk_le 64 64 (fun _ => H s (h.2 (by omega))) (fun z => absurd z (by omega))) (fun n i s hi h hw => ?_)
  refine pk_le 64 i (fun z => absurd z (by omega)) (fun _ => ⟨pk_in (o + i) 192 (by omega) (nI_add o i), wm_p, pk_in (o + i) 192 (by omega) (nI_add o i), nm_e (nm_r (nI_1 i) (hw _ ⟨fun z => absurd z (by omega), fun _ => ?_⟩))⟩)
  rw [wm_cl o i (by omega)]
  by_cases e : i = 0
  · subst e
    rw [Nat.add_zero, pk_us, h.1 rfl, show nI x * 7561 = nI (x * 7561) from pk_mul x 7561, wm_rem (by omega), hc]
  · rw [pk_un (by omega)]
    exact h.2 (by omega)
/-- the transform back of a constant sequence: its value lies in the first place -/
theorem wm_bwd {o c : Nat} (ho : o + 64 ≤ 192) (hc : c < 7681) (h3 : a3 0 = 1) (g : ∀ i, i < 64 → a4 (o + i) = nI c)
    (H : ∀ a, a o = nI c → post (f0, f1, f2, a1, a2, a3, a, a5, a6)) : wpX_transform post (f0, f1, f2, a1, a2, a3, a4, a5, a6) (nI o) 1 := by
  refine wm_bits ho (fun j k _ _ hj2 hk2 => by rw [g j hj2, g k hk2]) ?_
  refine pk_loop (fun n s a => wX_transform_70 post (nI o) 1 n (nI (2 ^ s)) f0 f1 f2 a1 a2 a3 a a5 a6) (fun s a => ∀ i, i < 64 → a (o + i) = wm_B (2 ^ s * c % 7681) (2 ^ s) i) 6 0 a4 (by omega) (fun i hi => ?_) (fun n a ha => ?_) (fun n s a hs ha hw => ?_)
  · rw [g i hi, Nat.pow_zero, Nat.one_mul, Nat.mod_eq_of_lt hc]
    exact (wm_B1 (Nat.mod_one i)).symm
  · refine pk_le 64 (2 ^ 6) (fun _ => br_f (by decide) (wm_div (x := 64 * c % 7681) (c := c) ho (Nat.mod_lt _ (by decide)) ?_ (by omega) H)) (fun z => absurd z (by decide))
    have t := ha 0 (by omega)
    rw [Nat.add_zero, wm_B1 (Nat.zero_mod _)] at t
    exact t
  · obtain ⟨p1, p2⟩ := wm_2s s hs
    refine pk_le 64 (2 ^ s) (fun z => absurd z (by omega)) (fun _ => wm_bst ho p1 p2 (wm_ix s hs) (wm_iy s hs) (wm_iz s hs) (Nat.mod_lt _ (by decide)) h3 ha (fun a' ha' => hw a' (fun i hi => ?_)))
    rw [ha' i hi, Nat.mul_mod_mod, ← Nat.mul_assoc, Nat.mul_comm 2 (2 ^ s), Nat.pow_succ]
end
end
section
/-! ===== what the sums come to, in naturals ===== -/
def wm_pw (t e : Nat) : Nat := if t = 0 then 0 else t ^ e
def wm_id (t l : Nat) : Nat := if t = l then 1 else 0
def wm_ac (c p t f : Nat) : Nat := (c + p * t % 7681 * f % 7681) % 7681
def wm_D (a b : Nat) : Nat := wm_ac (wm_ac (wm_ac 0 (wm_pw b 3) (wm_pw a 1) 1) (wm_pw b 2) (wm_pw a 2) 7679) (wm_pw b 1) (wm_pw a 3) 1
def wm_Wl (a b : Nat) : Nat → Nat
  | 0 => wm_ac 0 (wm_pw b 0) (wm_pw a 0) 1
  | l + 1 => wm_ac (wm_Wl a b l) (wm_id b (l + 1)) (wm_id a (l + 1)) 7680
def wm_df (a b : Nat) : Nat := if a ≠ b ∧ a ≠ 0 ∧ b ≠ 0 then 1 else 0
theorem wm_DW : ∀ a, a < 5 → ∀ b, b < 5 → (wm_D a b = 0 ↔ wm_df a b = 0) ∧ wm_Wl a b 4 = wm_df a b := by decide +kernel
theorem wm_acl {c p t f : Nat} : wm_ac c p t f < 7681 := Nat.mod_lt _ (by decide)
theorem wm_Wll (a b l : Nat) : wm_Wl a b l < 7681 := by
  cases l with
  | zero => exact wm_acl
  | succ l => exact wm_acl
theorem wm_pwl : ∀ t, t < 5 → ∀ e, e < 4 → wm_pw t e < 7681 := by decide +kernel
theorem wm_idl (t l : Nat) : wm_id t l < 7681 := by
  unfold wm_id
  split <;> decide
theorem wm_ng : ∀ l, l < 5 → 0 < l → ¬ (0 : Int32) ≤ -nI l := by decide +kernel
/-! ===== measure ===== -/
theorem wm_me {t e : Nat} (ht : t < 2 ^ 31) (he : e < 2 ^ 31) (q : Int32 → Prop) (u : St2) (H : q (nI (wm_pw t e))) : wpX_measure q u (nI t) (nI e) := by
  obtain ⟨f0, f1, f2, a1, a2, a3, a4, a5, a6⟩ := u
  refine br_t (nI_pos' he) (pk_eq t 0 (fun z => ?_) (fun z => ?_))
  · unfold wm_pw at H
    rw [if_pos z] at H
    exact H
  · unfold wm_pw at H
    rw [if_neg z] at H
    exact pk_loop (σ := Unit) (fun n i _ => wX_measure_27 q (nI t) (nI e) f0 f1 f2 a1 a2 a3 a4 a5 a6 n (nI (t ^ i)) (nI i)) (fun _ _ => True) e 0 () (by omega) trivial (fun n _ _ => pk_le e e (fun _ => H) (fun z => absurd z (by omega))) (fun n i _ hi _ hw => pk_le e i (fun z => absurd z (by omega)) (fun _ => nm_r (pk_mul (t ^ i) t) (nm_r (nI_1 i) (hw () trivial))))
theorem wm_mn {t l : Nat} (ht : t < 2 ^ 31) (l0 : 0 < l) (hl : l < 5) (q : Int32 → Prop) (u : St2) (H : q (nI (wm_id t l))) : wpX_measure q u (nI t) (-nI l) := by
  obtain ⟨f0, f1, f2, a1, a2, a3, a4, a5, a6⟩ := u
  refine br_f (wm_ng l hl l0) (pk_eq t l (fun z => ?_) (fun z => ?_) rfl (by simp))
  · unfold wm_id at H
    rw [if_pos z] at H
    exact H
  · unfold wm_id at H
    rw [if_neg z] at H
    exact H
/-! ===== addProduct ===== -/
section
variable {post : St2 → Prop} {f0 f1 f2 : Int32} {a1 a2 a3 a4 a5 a6 : Nat → Int32}
theorem wm_151 {c p t f : Nat} {x3 : Int32} (hc : c < 7681) (hp : p < 7681) (ht : t < 7681) (hf : f < 7681) (e3 : x3 = nI f)
    (hT : ∀ j, j < 64 → a4 j = nI t) (hP : ∀ j, j < 64 → a4 (64 + j) = nI p) (hS : ∀ j, j < 64 → a4 (128 + j) = nI c)
    (H : ∀ a, (∀ j, j < 64 → a (128 + j) = nI (wm_ac c p t f)) → post (f0, f1, f2, a1, a2, a3, a, a5, a6)) :
    ∃ n, wX_addProduct_151 post x3 f0 f1 f2 n 0 a1 a2 a3 a4 a5 a6 := by
  subst e3
  refine pk_loop (fun n i s => wX_addProduct_151 post (nI f) f0 f1 f2 n (nI i) a1 a2 a3 s a5 a6) (fun i s => (∀ j, j < 128 → s j = a4 j) ∧ (∀ j, j < i → s (128 + j) = nI (wm_ac c p t f)) ∧ (∀ j, i ≤ j → j < 64 → s (128 + j) = nI c)) 64 0 a4 (by omega) ⟨fun _ _ => rfl, fun j hj => absurd hj (by omega), fun j _ hj => hS j hj⟩ (fun n s h => pk_le 64 64 (fun _ => H s h.2.1) (fun z => absurd z (by omega))) (fun n i s hi h hw => ?_)
  obtain ⟨k1, k2, k3⟩ := h
  have v1 : s (64 + i) = nI p := (k1 (64 + i) (by omega)).trans (hP i hi)
  have v0 : s (0 + i) = nI t := by
    rw [Nat.zero_add]
    exact (k1 i (by omega)).trans (hT i hi)
  have v2 : s (128 + i) = nI c := k3 i (by omega) hi
  have c1 : (64 + nI i).toNatClampNeg = 64 + i := wm_cl 64 i (by omega)
  have c0 : (0 + nI i).toNatClampNeg = 0 + i := wm_cl 0 i (by omega)
  have c2 : (128 + nI i).toNatClampNeg = 128 + i := wm_cl 128 i (by omega)
  have m1 : nI p * nI t - nI p * nI t / 7681 * 7681 = nI (p * t % 7681) := by
    rw [pk_mul]
    exact wm_rem (wm_mm hp ht)
  have m2 : nI (p * t % 7681) * nI f - nI (p * t % 7681) * nI f / 7681 * 7681 = nI (p * t % 7681 * f % 7681) := by
    rw [pk_mul]
    exact wm_rem (wm_mm (Nat.mod_lt _ (by decide)) hf)
  have m3 : nI c + nI (p * t % 7681 * f % 7681) - (nI c + nI (p * t % 7681 * f % 7681)) / 7681 * 7681 = nI (wm_ac c p t f) := by
    have hm : p * t % 7681 * f % 7681 < 7681 := Nat.mod_lt _ (by decide)
    rw [nI_add]
    exact wm_rem (by omega)
  refine pk_le 64 i (fun z => absurd z (by omega)) (fun _ => ⟨pk_in (64 + i) 192 (by omega) (nI_add 64 i), pk_in (0 + i) 192 (by omega) (nI_add 0 i), wm_p, wm_p, nm_r (e' := nI (p * t % 7681 * f % 7681)) ?_ ⟨pk_in (128 + i) 192 (by omega) (nI_add 128 i), wm_p, pk_in (128 + i) 192 (by omega) (nI_add 128 i), nm_r (e' := upd s (128 + i) (nI (wm_ac c p t f))) ?_ (nm_r (nI_1 i) (hw _ ⟨fun j hj => ?_, fun j hj => ?_, fun j hj hj2 => ?_⟩))⟩⟩)
  · rw [c1, c0, v1, v0, m1, m2]
  · rw [c2, v2, m3]
  · rw [pk_un (by omega)]
    exact k1 j hj
  · by_cases e : j = i
    · rw [e, pk_us]
    · rw [pk_un (by omega)]
      exact k2 j (by omega)
  · rw [pk_un (by omega)]
    exact k3 j (by omega) hj2
/-- a text of one letter and a pattern of one letter: every place of the transformed sum grows by the same number -/
theorem wm_add {c p t f : Nat} {x1 x2 x3 : Int32} (hc : c < 7681) (hp : p < 7681) (ht : t < 7681) (hf : f < 7681) (e3 : x3 = nI f)
    (hP : ∀ (q : Int32 → Prop) (u : St2) (z : Nat), z = 0 → q (nI p) → wpX_measure q u (a2 z) x1)
    (hT : ∀ (q : Int32 → Prop) (u : St2) (z : Nat), z = 0 → q (nI t) → wpX_measure q u (a1 z) x2)
    (hS : ∀ j, j < 64 → a4 (128 + j) = nI c)
    (H : ∀ a, (∀ j, j < 64 → a (128 + j) = nI (wm_ac c p t f)) → post (nI 1, nI 1, f2, a1, a2, a3, a, a5, a6)) :
    wpX_addProduct post (nI 1, nI 1, f2, a1, a2, a3, a4, a5, a6) x1 x2 x3 := by
  refine pk_loop (fun n i s => wX_addProduct_3 post x1 x2 x3 (nI 1) (nI 1) f2 n (nI i) a1 a2 a3 s a5 a6) (fun i s => (∀ j, j < i → s j = nI 0) ∧ (∀ j, j < i → s (64 + j) = nI 0) ∧ (∀ j, j < 64 → s (128 + j) = nI c)) 64 0 a4 (by omega) ⟨fun j hj => absurd hj (by omega), fun j hj => absurd hj (by omega), hS⟩ (fun n s h => pk_le 64 64 (fun _ => ?_) (fun z => absurd z (by omega))) (fun n i s hi h hw => pk_le 64 i (fun z => absurd z (by omega)) (fun _ => ⟨pk_in (64 + i) 192 (by omega) (nI_add 64 i), nm_r (congrArg (fun k => upd s k 0) (wm_cl 64 i (by omega))) ⟨pk_in (0 + i) 192 (by omega) (nI_add 0 i), nm_r (congrArg (fun k => upd (upd s (64 + i) 0) k 0) ((wm_cl 0 i (by omega)).trans (Nat.zero_add i))) (nm_r (nI_1 i) (hw _ ⟨fun j hj => ?_, fun j hj => ?_, fun j hj => ?_⟩))⟩⟩))
  · obtain ⟨k1, k2, k3⟩ := h
    refine ⟨2, br_f (by decide) ⟨pk_in 0 12 (by decide), hP _ _ _ (by decide) ⟨pk_in 64 192 (by decide) (by decide), nm_r (e' := upd s 64 (nI p)) (congrArg (fun k => upd s k (nI p)) (by decide)) (nm_e (br_t (by decide) ⟨2, ?_⟩))⟩⟩⟩
    refine br_f (by decide) ⟨by decide, vp_in_iff.mpr (by decide), hT _ _ _ (by decide) ⟨pk_in 0 192 (by decide) (by decide), nm_r (e' := upd (upd s 64 (nI p)) 0 (nI t)) (congrArg (fun k => upd (upd s 64 (nI p)) k (nI t)) (by decide)) (nm_e (br_t (by decide) ?_))⟩⟩
    refine wm_fwd (o := 64) (v := p) (by decide) hp (fun i hi => ?_) (fun b hb1 hb2 => wm_fwd (o := 0) (v := t) (by decide) ht (fun i hi => ?_) (fun d hd1 hd2 => wm_151 hc hp ht hf e3 (fun j hj => ?_) (fun j hj => ?_) (fun j hj => ?_) H))
    · by_cases e : i = 0
      · rw [e, pk_un (by omega), Nat.add_zero, pk_us, wm_G1 (by omega)]
      · rw [wm_u3 (by omega) (by omega), k2 i hi, wm_G0 (by omega)]
    · rw [hb2 (0 + i) (Or.inl (by omega)), Nat.zero_add]
      by_cases e : i = 0
      · rw [e, pk_us, wm_G1 (by omega)]
      · rw [wm_u3 (by omega) (by omega), k1 i hi, wm_G0 (by omega)]
    · have w := hd1 j hj
      rw [Nat.zero_add] at w
      exact w
    · exact (hd2 (64 + j) (Or.inr (by omega))).trans (hb1 j hj)
    · rw [hd2 (128 + j) (Or.inr (by omega)), hb2 (128 + j) (Or.inr (by omega)), wm_u3 (by omega) (by omega)]
      exact k3 j hj
  · by_cases e : j = i
    · rw [e, pk_us]; rfl
    · rw [wm_u3 (by omega) (by omega)]
      exact h.1 j (by omega)
  · by_cases e : j = i
    · rw [e, pk_un (by omega), pk_us]; rfl
    · rw [wm_u3 (by omega) (by omega)]
      exact h.2.1 j (by omega)
  · rw [wm_u3 (by omega) (by omega)]
    exact h.2.2 j hj
/-! ===== prepare, for one letter against one letter ===== -/
theorem wm_prep11 {a b : Nat} (ha : a < 5) (hb : b < 5) (e1 : a1 0 = nI a) (e2 : a2 0 = nI b) (e3 : a3 0 = 1)
    (H : ∀ b4 b5 b6 : Nat → Int32, b5 0 = nI (wm_D a b) → b6 0 = nI (wm_Wl a b 4) → post (nI 1, nI 1, 1, a1, a2, a3, b4, b5, b6)) :
    wpX_prepare post (nI 1, nI 1, 0, a1, a2, a3, a4, a5, a6) := by
  have P : ∀ e, e < 2 ^ 31 → ∀ (q : Int32 → Prop) (u : St2) (z : Nat), z = 0 → q (nI (wm_pw b e)) → wpX_measure q u (a2 z) (nI e) := by
    intro e he q u z hz hq
    subst hz
    rw [e2]
    exact wm_me (by omega) he q u hq
  have T : ∀ e, e < 2 ^ 31 → ∀ (q : Int32 → Prop) (u : St2) (z : Nat), z = 0 → q (nI (wm_pw a e)) → wpX_measure q u (a1 z) (nI e) := by
    intro e he q u z hz hq
    subst hz
    rw [e1]
    exact wm_me (by omega) he q u hq
  have PN : ∀ l, 0 < l → l < 5 → ∀ (q : Int32 → Prop) (u : St2) (z : Nat), z = 0 → q (nI (wm_id b l)) → wpX_measure q u (a2 z) (-nI l) := by
    intro l l0 l5 q u z hz hq
    subst hz
    rw [e2]
    exact wm_mn (by omega) l0 l5 q u hq
  have TN : ∀ l, 0 < l → l < 5 → ∀ (q : Int32 → Prop) (u : St2) (z : Nat), z = 0 → q (nI (wm_id a l)) → wpX_measure q u (a1 z) (-nI l) := by
    intro l l0 l5 q u z hz hq
    subst hz
    rw [e1]
    exact wm_mn (by omega) l0 l5 q u hq
  have c128 : ((128 : Int32) + 0 + nI 1 - 1).toNatClampNeg = 128 := by decide
  refine br_t rfl (br_f (by decide) (br_t (by decide) (wm_clear (fun b0 h0 => ?_))))
  refine wm_add (c := 0) (f := 1) (by decide) (wm_pwl b hb 3 (by decide)) (wm_pwl a ha 1 (by decide)) (by decide) rfl (P 3 (by decide)) (T 1 (by decide)) h0 (fun b1 h1 => ?_)
  refine wm_add (f := 7679) wm_acl (wm_pwl b hb 2 (by decide)) (wm_pwl a ha 2 (by decide)) (by decide) rfl (P 2 (by decide)) (T 2 (by decide)) h1 (fun b2 h2 => ?_)
  refine wm_add (f := 1) wm_acl (wm_pwl b hb 1 (by decide)) (wm_pwl a ha 3 (by decide)) (by decide) rfl (P 1 (by decide)) (T 3 (by decide)) h2 (fun b3 h3 => ?_)
  refine wm_bwd (o := 128) (by decide) wm_acl e3 h3 (fun b4 h4 => ?_)
  refine ⟨2, br_f (by decide) ⟨pk_in 128 192 (by decide) (by decide), pk_in 0 40 (by decide), nm_r (e' := upd a5 0 (nI (wm_D a b))) ?_ (nm_e (br_t (by decide) (wm_clear (fun c0 g0 => ?_))))⟩⟩
  · rw [sb_cl0, c128]
    exact congrArg (upd a5 0) h4
  refine wm_add (c := 0) (f := 1) (by decide) (wm_pwl b hb 0 (by decide)) (wm_pwl a ha 0 (by decide)) (by decide) rfl (P 0 (by decide)) (T 0 (by decide)) g0 (fun c1 g1 => ?_)
  refine pk_loop (fun n i s => wX_prepare_119 post n (nI (i + 1)) (nI 1) (nI 1) 1 a1 a2 a3 s (upd a5 0 (nI (wm_D a b))) a6) (fun i s => ∀ j, j < 64 → s (128 + j) = nI (wm_Wl a b i)) 4 0 c1 (by omega) g1 (fun n s hs => pk_lt 4 5 (fun _ => ?_) (fun z => absurd z (by omega))) (fun n i s hi hs hw => pk_lt 4 (i + 1) (fun z => absurd z (by omega)) (fun _ => ?_))
  · refine wm_bwd (o := 128) (by decide) (wm_Wll a b 4) e3 hs (fun d hd => ⟨2, br_f (by decide) ⟨pk_in 128 192 (by decide) (by decide), pk_in 0 40 (by decide), nm_r (e' := upd a6 0 (nI (wm_Wl a b 4))) ?_ (nm_e (br_t (by decide) (H _ _ _ pk_us pk_us)))⟩⟩)
    rw [sb_cl0, c128]
    exact congrArg (upd a6 0) hd
  · exact wm_add (f := 7680) (wm_Wll a b i) (wm_idl b (i + 1)) (wm_idl a (i + 1)) (by decide) rfl (PN (i + 1) (by omega) (by omega)) (TN (i + 1) (by omega) (by omega)) hs (fun s' hs' => nm_r (nI_1 (i + 1)) (hw s' hs'))
end
end
section
/-! ===== the picture: n, m the lengths (0 or 1), a, b the letters (0 where there is none) ===== -/
def wm_Rd (n m a b : Nat) (a5 a6 : Nat → Int32) : Prop := n = 1 → m = 1 → a5 0 = nI (wm_D a b) ∧ a6 0 = nI (wm_Wl a b 4)
def wm_Ok (n m a b : Nat) (u : St2) : Prop := ∃ (f2 : Int32) (a1 a2 a3 a4 a5 a6 : Nat → Int32), u = (nI n, nI m, f2, a1, a2, a3, a4, a5, a6) ∧ a1 0 = nI a ∧ a2 0 = nI b ∧ a3 0 = 1 ∧ (f2 = 0 ∨ f2 = 1 ∧ wm_Rd n m a b a5 a6)
def wm_R1 (n m a b : Nat) (u : St2) : Prop := ∃ (a1 a2 a3 a4 a5 a6 : Nat → Int32), u = (nI n, nI m, 1, a1, a2, a3, a4, a5, a6) ∧ a1 0 = nI a ∧ a2 0 = nI b ∧ a3 0 = 1 ∧ wm_Rd n m a b a5 a6
/-- the number of mismatches at any shift -/
def wm_w (m a b : Nat) : Nat := if m = 0 then 0 else wm_df a b
/-- the places that are a shift -/
def wm_sh (n m : Nat) (i : Int32) : Prop := (i = 0 ∧ (n = 1 ∨ m = 0)) ∨ (i = 1 ∧ n = 1 ∧ m = 0)
theorem wm_dfl (a b : Nat) : wm_df a b ≤ 1 := by
  unfold wm_df
  split <;> decide
theorem wm_wl (m a b : Nat) : wm_w m a b ≤ 1 := by
  unfold wm_w
  split
  · decide
  · exact wm_dfl a b
theorem wm_i0 {i : Int32} : i = 0 ↔ i.toInt = 0 := ⟨fun h => by rw [h]; decide, fun h => Int32.toInt_inj.mp (h.trans (by decide))⟩
theorem wm_i1 {i : Int32} : i = 1 ↔ i.toInt = 1 := ⟨fun h => by rw [h]; decide, fun h => Int32.toInt_inj.mp (h.trans (by decide))⟩
theorem wm_l0 {i : Int32} : i < 0 ↔ i.toInt < 0 := by
  rw [Int32.lt_iff_toInt_lt, show (0 : Int32).toInt = 0 by decide]
theorem wm_isSh {n m : Nat} {i : Int32} (hn : n ≤ 1) (hm : m ≤ 1) : wm_sh n m i ↔ ¬ i < 0 ∧ ¬ nI n - nI m < i := by
  unfold wm_sh
  rw [wm_i0, wm_i1, wm_l0, Int32.lt_iff_toInt_lt, pk_sub_toInt (by omega) (by omega)]
  omega
theorem wm_shw {n m : Nat} {i : Int32} (hn : n ≤ 1) (hm : m ≤ 1) (h : wm_sh n m i) : m = 0 ∨ n = 1 ∧ m = 1 ∧ i = 0 := by
  rcases h with ⟨h1, h2⟩ | ⟨_, _, h3⟩
  · by_cases e : m = 0
    · exact Or.inl e
    · exact Or.inr ⟨by omega, by omega, h1⟩
  · exact Or.inl h3
theorem wm_shc {n m i : Nat} (hn : n ≤ 1) (hm : m ≤ 1) (hi : i ≤ 2) : nI n - nI m < nI i ↔ n + 1 - m ≤ i := by
  rw [Int32.lt_iff_toInt_lt, pk_sub_toInt (by omega) (by omega), nI_toInt (by omega)]
  omega
theorem wm_b8 : ∀ a, a < 5 → (nI a).toInt8.toInt32 = nI a := by decide +kernel
/-! ===== prepare ===== -/
theorem wm_prep {post : St2 → Prop} {n m a b : Nat} {u : St2} (hn : n ≤ 1) (hm : m ≤ 1) (ha : a < 5) (hb : b < 5) (hu : wm_Ok n m a b u)
    (H : ∀ u', wm_R1 n m a b u' → post u') : wpX_prepare post u := by
  obtain ⟨f2, a1, a2, a3, a4, a5, a6, rfl, e1, e2, e3, hf⟩ := hu
  rcases hf with rfl | ⟨rfl, hr⟩
  · by_cases c : n = 1 ∧ m = 1
    · obtain ⟨rfl, rfl⟩ := c
      exact wm_prep11 ha hb e1 e2 e3 (fun b4 b5 b6 h5 h6 => H _ ⟨a1, a2, a3, b4, b5, b6, rfl, e1, e2, e3, fun _ _ => ⟨h5, h6⟩⟩)
    · have h1 : post (nI n, nI m, 1, a1, a2, a3, a4, a5, a6) := H _ ⟨a1, a2, a3, a4, a5, a6, rfl, e1, e2, e3, fun z1 z2 => absurd ⟨z1, z2⟩ c⟩
      exact br_t rfl (pk_eq m 0 (fun _ => h1) (fun z => pk_le m n (fun z2 => absurd ⟨by omega, by omega⟩ c) (fun _ => h1)))
  · exact br_f (by decide) (H _ ⟨a1, a2, a3, a4, a5, a6, rfl, e1, e2, e3, hr⟩)
section
variable {post : Int32 → St2 → Prop} {n m a b : Nat} {u : St2}
theorem wm_wrong {i : Int32} (hn : n ≤ 1) (hm : m ≤ 1) (ha : a < 5) (hb : b < 5) (hu : wm_Ok n m a b u) (hi : m = 0 ∨ n = 1 ∧ m = 1 ∧ i = 0)
    (H : ∀ u', wm_Ok n m a b u' → post (nI (wm_w m a b)) u') : wpX_wrongAt post u i := by
  have ok := hu
  obtain ⟨f2, a1, a2, a3, a4, a5, a6, rfl, _⟩ := hu
  unfold wpX_wrongAt
  refine wm_prep hn hm ha hb ok (fun u' hu' => ?_)
  obtain ⟨b1, b2, b3, b4, b5, b6, rfl, e1, e2, e3, hr⟩ := hu'
  have h := H _ ⟨1, b1, b2, b3, b4, b5, b6, rfl, e1, e2, e3, Or.inr ⟨rfl, hr⟩⟩
  unfold wm_w at h
  refine pk_eq m 0 (fun z => ?_) (fun z => ?_)
  · rw [if_pos z] at h
    exact h
  · rw [if_neg z] at h
    rcases hi with hi | ⟨h1, h2, h3⟩
    · exact absurd hi z
    · subst h3
      refine ⟨pk_in 0 40 (by decide), ?_⟩
      rw [sb_cl0, (hr h1 h2).2, (wm_DW a ha b hb).2]
      exact h
theorem wm_mis {i : Int32} (hn : n ≤ 1) (hm : m ≤ 1) (ha : a < 5) (hb : b < 5) (hu : wm_Ok n m a b u)
    (H0 : ¬ wm_sh n m i → ∀ u', wm_Ok n m a b u' → post (-2) u') (H1 : wm_sh n m i → ∀ u', wm_Ok n m a b u' → post (nI (wm_w m a b)) u') :
    wpX_mismatches post u i := by
  have ok := hu
  obtain ⟨f2, a1, a2, a3, a4, a5, a6, rfl, _⟩ := hu
  have s := wm_isSh (i := i) hn hm
  unfold wpX_mismatches
  refine br_c (fun z => br_t rfl (H0 (fun t => (s.mp t).1 z) _ ok)) (fun z => br_c (fun z2 => br_t rfl (H0 (fun t => (s.mp t).2 z2) _ ok)) (fun z2 => br_f (by decide) ?_))
  refine wm_wrong hn hm ha hb ok (wm_shw hn hm (s.mpr ⟨z, z2⟩)) (fun u' ok' => ?_)
  obtain ⟨c0, c1, c2, c3, c4, c5, c6, c7, c8⟩ := u'
  exact H1 (s.mpr ⟨z, z2⟩) _ ok'
theorem wm_within {k : Int32} (hn : n ≤ 1) (hm : m ≤ 1) (ha : a < 5) (hb : b < 5) (hu : wm_Ok n m a b u)
    (H0 : k < nI (wm_w m a b) → ∀ u', wm_Ok n m a b u' → post 0 u') (H1 : ¬ k < nI (wm_w m a b) → ∀ u', wm_Ok n m a b u' → post (nI (n + 1 - m)) u') :
    wpX_within post u k := by
  have ok := hu
  obtain ⟨f2, a1, a2, a3, a4, a5, a6, rfl, _⟩ := hu
  by_cases c : k < nI (wm_w m a b)
  · refine pk_loop (σ := St2) (fun fu i u => wX_within_4 post k fu 0 (nI i) u.1 u.2.1 u.2.2.1 u.2.2.2.1 u.2.2.2.2.1 u.2.2.2.2.2.1 u.2.2.2.2.2.2.1 u.2.2.2.2.2.2.2.1 u.2.2.2.2.2.2.2.2) (fun _ u => wm_Ok n m a b u) (n + 1 - m) 0 _ (by omega) ok (fun fu u hu => ?_) (fun fu i u hi hu hw => ?_)
    · have ok2 := hu
      obtain ⟨g2, b1, b2, b3, b4, b5, b6, rfl, _⟩ := hu
      exact br_t ((wm_shc hn hm (by omega)).mpr (Nat.le_refl _)) (H0 c _ ok2)
    · have ok2 := hu
      obtain ⟨g2, b1, b2, b3, b4, b5, b6, rfl, _⟩ := hu
      refine br_f (fun t => absurd ((wm_shc hn hm (by omega)).mp t) (by omega)) (wm_wrong hn hm ha hb ok2 ?_ (fun u' ok' => ?_))
      · by_cases e : m = 0
        · exact Or.inl e
        · exact Or.inr ⟨by omega, by omega, by rw [show i = 0 by omega]; rfl⟩
      · obtain ⟨c0, c1, c2, c3, c4, c5, c6, c7, c8⟩ := u'
        exact br_t c (nm_r (nI_1 i) (hw _ ok'))
  · refine pk_loop (σ := St2) (fun fu i u => wX_within_4 post k fu (nI i) (nI i) u.1 u.2.1 u.2.2.1 u.2.2.2.1 u.2.2.2.2.1 u.2.2.2.2.2.1 u.2.2.2.2.2.2.1 u.2.2.2.2.2.2.2.1 u.2.2.2.2.2.2.2.2) (fun _ u => wm_Ok n m a b u) (n + 1 - m) 0 _ (by omega) ok (fun fu u hu => ?_) (fun fu i u hi hu hw => ?_)
    · have ok2 := hu
      obtain ⟨g2, b1, b2, b3, b4, b5, b6, rfl, _⟩ := hu
      exact br_t ((wm_shc hn hm (by omega)).mpr (Nat.le_refl _)) (H1 c _ ok2)
    · have ok2 := hu
      obtain ⟨g2, b1, b2, b3, b4, b5, b6, rfl, _⟩ := hu
      refine br_f (fun t => absurd ((wm_shc hn hm (by omega)).mp t) (by omega)) (wm_wrong hn hm ha hb ok2 ?_ (fun u' ok' => ?_))
      · by_cases e : m = 0
        · exact Or.inl e
        · exact Or.inr ⟨by omega, by omega, by rw [show i = 0 by omega]; rfl⟩
      · obtain ⟨c0, c1, c2, c3, c4, c5, c6, c7, c8⟩ := u'
        exact br_f c (nm_r (nI_1 i) (nm_r (nI_1 i) (hw _ ok')))
theorem wm_match {i : Nat} (hn : n ≤ 1) (hm : m ≤ 1) (ha : a < 5) (hb : b < 5) (hu : wm_Ok n m a b u) (hi : i < n + 1 - m)
    (H1 : wm_w m a b = 0 → ∀ u', wm_Ok n m a b u' → post 1 u') (H0 : wm_w m a b ≠ 0 → ∀ u', wm_Ok n m a b u' → post 0 u') : wpX_matches post u (nI i) := by
  have ok := hu
  obtain ⟨f2, a1, a2, a3, a4, a5, a6, rfl, _⟩ := hu
  unfold wpX_matches
  refine br_f (nI_pos (by omega)) (br_f (fun t => absurd ((wm_shc hn hm (by omega)).mp t) (by omega)) (br_f (by decide) (wm_prep hn hm ha hb ok (fun u' hu' => ?_))))
  obtain ⟨b1, b2, b3, b4, b5, b6, rfl, e1, e2, e3, hr⟩ := hu'
  have ok' : wm_Ok n m a b (nI n, nI m, 1, b1, b2, b3, b4, b5, b6) := ⟨1, b1, b2, b3, b4, b5, b6, rfl, e1, e2, e3, Or.inr ⟨rfl, hr⟩⟩
  refine pk_eq m 0 (fun z => H1 (if_pos z) _ ok') (fun z => ⟨pk_in i 40 (by omega), ?_⟩)
  have ew : wm_w m a b = wm_df a b := if_neg z
  have ed := (wm_DW a ha b hb).1
  rw [nI_clamp (by omega), show i = 0 by omega, (hr (by omega) (by omega)).1]
  exact pk_eq (wm_D a b) 0 (fun q => H1 (by rw [ew]; exact ed.mp q) _ ok') (fun q => H0 (by rw [ew]; exact fun t => q (ed.mpr t)) _ ok') rfl rfl (Nat.lt_trans wm_acl (by decide)) (by decide)
theorem wm_next {x : Int32} (hn : n ≤ 1) (hm : m ≤ 1) (ha : a < 5) (hb : b < 5) (hu : wm_Ok n m a b u)
    (H0 : (∀ j, j < n + 1 - m → nI j < x ∨ wm_w m a b ≠ 0) → ∀ u', wm_Ok n m a b u' → post (-3) u')
    (H1 : ∀ i, i < n + 1 - m → ¬ nI i < x → wm_w m a b = 0 → (∀ j, j < i → nI j < x) → ∀ u', wm_Ok n m a b u' → post (nI i) u') :
    wpX_nextMatch post u x := by
  have ok := hu
  obtain ⟨f2, a1, a2, a3, a4, a5, a6, rfl, _⟩ := hu
  refine pk_loop (σ := St2) (fun fu i u => wX_nextMatch_2 post x fu (nI i) u.1 u.2.1 u.2.2.1 u.2.2.2.1 u.2.2.2.2.1 u.2.2.2.2.2.1 u.2.2.2.2.2.2.1 u.2.2.2.2.2.2.2.1 u.2.2.2.2.2.2.2.2) (fun i u => wm_Ok n m a b u ∧ ∀ j, j < i → nI j < x ∨ wm_w m a b ≠ 0) (n + 1 - m) 0 _ (by omega) ⟨ok, fun j hj => absurd hj (by omega)⟩ (fun fu u hI => ?_) (fun fu i u hi hI hw => ?_)
  · obtain ⟨hu, hj⟩ := hI
    have ok2 := hu
    obtain ⟨g2, b1, b2, b3, b4, b5, b6, rfl, _⟩ := hu
    exact br_t ((wm_shc hn hm (by omega)).mpr (Nat.le_refl _)) (H0 hj _ ok2)
  · obtain ⟨hu, hj⟩ := hI
    have ok2 := hu
    obtain ⟨g2, b1, b2, b3, b4, b5, b6, rfl, _⟩ := hu
    refine br_f (fun t => absurd ((wm_shc hn hm (by omega)).mp t) (by omega)) (br_c (fun z => nm_r (nI_1 i) (hw _ ⟨ok2, lt_s hj (Or.inl z)⟩)) (fun z => wm_match hn hm ha hb ok2 hi (fun w0 u' ok' => ?_) (fun w1 u' ok' => ?_)))
    · obtain ⟨c0, c1, c2, c3, c4, c5, c6, c7, c8⟩ := u'
      exact br_f (by decide) (H1 i hi z w0 (fun j h => (hj j h).resolve_right (fun t => t w0)) _ ok')
    · obtain ⟨c0, c1, c2, c3, c4, c5, c6, c7, c8⟩ := u'
      exact br_t rfl (nm_r (nI_1 i) (hw _ ⟨ok', lt_s hj (Or.inr w1)⟩))
theorem wm_turnM {i : Int32} (hn : n ≤ 1) (hm : m ≤ 1) (ha : a < 5) (hb : b < 5) (hu : wm_Ok n m a b u)
    (H0 : ¬ (n = 1 ∧ i = 0) → ∀ u', wm_Ok n m a b u' → post (-2) u') (H1 : n = 1 → i = 0 → ∀ u', wm_Ok n m a b u' → post (nI (wm_w m a b)) u') :
    wpX_turnedMismatches post u i := by
  have ok := hu
  obtain ⟨f2, a1, a2, a3, a4, a5, a6, rfl, _⟩ := hu
  have el : nI n ≤ i ↔ (n : Int) ≤ i.toInt := by rw [Int32.le_iff_toInt_le, nI_toInt (by omega)]
  refine br_c (fun z => H0 (fun t => ?_) _ ok) (fun z => br_c (fun z2 => H0 (fun t => ?_) _ ok) (fun z2 => ?_))
  · rw [t.2] at z
    exact absurd z (by decide)
  · rw [el, wm_i0.mp t.2] at z2
    omega
  · rw [el] at z2
    rw [wm_l0] at z
    have n1 : n = 1 := by omega
    have i0 : i = 0 := wm_i0.mpr (by omega)
    refine pk_le m n (fun _ => wm_wrong hn hm ha hb ok ?_ (fun u' ok' => ?_)) (fun t => absurd t (by omega))
    · by_cases e : m = 0
      · exact Or.inl e
      · exact Or.inr ⟨n1, by omega, i0⟩
    · obtain ⟨c0, c1, c2, c3, c4, c5, c6, c7, c8⟩ := u'
      exact H1 n1 i0 _ ok'
theorem wm_typeT {x : Int32} (hu : wm_Ok 0 0 0 0 u) (A : (n = 1 ∧ a < 5 ∧ x = nI a) ∨ (n = 0 ∧ a = 0 ∧ (x < 0 ∨ 4 < x)))
    (H1 : n = 1 → ∀ u', wm_Ok n 0 a 0 u' → post 1 u') (H0 : n = 0 → ∀ u', wm_Ok n 0 a 0 u' → post (-2) u') : wpX_type post u 0 x := by
  have ok := hu
  obtain ⟨f2, a1, a2, a3, a4, a5, a6, rfl, e1, e2, e3, _⟩ := hu
  refine br_t rfl (br_t (by decide) ?_)
  rcases A with ⟨rfl, ha, rfl⟩ | ⟨rfl, rfl, hx⟩
  · refine br_f (nI_pos (by omega)) (br_t (nI_le (b := 4) (by omega) (by decide)) (br_t rfl ⟨pk_in 0 40 (by decide), nm_r (e' := upd a1 0 (nI a)) ?_ (nm_r (e' := nI 1) rfl (H1 rfl _ ⟨0, upd a1 0 (nI a), a2, a3, a4, a5, a6, rfl, pk_us, e2, e3, Or.inl rfl⟩))⟩))
    rw [nI_clamp (by omega), wm_b8 a ha]
  · refine br_c (fun _ => H0 rfl _ ok) (fun z => br_f ?_ (H0 rfl _ ok))
    rcases hx with hx | hx
    · exact absurd hx z
    · rw [Int32.lt_iff_toInt_lt] at hx
      rw [Int32.le_iff_toInt_le]
      omega
theorem wm_typeP {x : Int32} (hu : wm_Ok n 0 a 0 u) (B : (m = 1 ∧ b < 5 ∧ x = nI b) ∨ (m = 0 ∧ b = 0 ∧ (x < 0 ∨ 4 < x)))
    (H1 : m = 1 → ∀ u', wm_Ok n m a b u' → post 1 u') (H0 : m = 0 → ∀ u', wm_Ok n m a b u' → post (-2) u') : wpX_type post u 1 x := by
  have ok := hu
  obtain ⟨f2, a1, a2, a3, a4, a5, a6, rfl, e1, e2, e3, _⟩ := hu
  refine br_f (by decide) (br_t (by decide) ?_)
  rcases B with ⟨rfl, hb, rfl⟩ | ⟨rfl, rfl, hx⟩
  · refine br_f (nI_pos (by omega)) (br_t (nI_le (b := 4) (by omega) (by decide)) (br_f (by decide) ⟨pk_in 0 12 (by decide), nm_r (e' := upd a2 0 (nI b)) ?_ (nm_r (e' := nI 1) rfl (H1 rfl _ ⟨0, a1, upd a2 0 (nI b), a3, a4, a5, a6, rfl, e1, pk_us, e3, Or.inl rfl⟩))⟩))
    rw [nI_clamp (by omega), wm_b8 b hb]
  · refine br_c (fun _ => H0 rfl _ ok) (fun z => br_f ?_ (H0 rfl _ ok))
    rcases hx with hx | hx
    · exact absurd hx z
    · rw [Int32.lt_iff_toInt_lt] at hx
      rw [Int32.le_iff_toInt_le]
      omega
end
/-! ===== the constructor: of the roots only the first is wanted ===== -/
theorem wm_init {post : St2 → Prop} {mc ms : Nat} (hmc : 6 ≤ mc) (hms : 388 ≤ ms) (H : ∀ u', wm_Ok 0 0 0 0 u' → post u') : wpX_init post mc ms (0, 0, 0) := by
  refine ⟨by omega, by omega, by omega, by omega, by omega, by omega, by omega, by omega, by omega, by omega, by omega, by omega, ?_⟩
  refine pk_loop (σ := Int32) (fun n i x1 => wX_init_57 post mc ms 6 388 0 0 0 (fun _ => 0) (fun _ => 0) (fun _ => 0) (fun _ => 0) (fun _ => 0) (fun _ => 0) n x1 (nI i)) (fun _ _ => True) 120 0 1 (by omega) trivial (fun n x1 _ => pk_le 120 120 (fun _ => nm_e ?_) (fun z => absurd z (by omega))) (fun n i x1 hi _ hw => pk_le 120 i (fun z => absurd z (by omega)) (fun _ => ⟨wm_p, nm_e (nm_r (nI_1 i) (hw _ trivial))⟩))
  refine pk_loop (fun n i s => wX_init_87 post mc ms x1 6 388 0 0 0 n (nI i) (fun _ => 0) (fun _ => 0) s (fun _ => 0) (fun _ => 0) (fun _ => 0)) (fun i s => 0 < i ∧ s 0 = 1) 64 1 _ (by omega) ⟨by omega, pk_us⟩ (fun n s h => pk_le 64 64 (fun _ => H _ ⟨0, fun _ => 0, fun _ => 0, s, fun _ => 0, fun _ => 0, fun _ => 0, rfl, rfl, rfl, h.2, Or.inl rfl⟩) (fun z => absurd z (by omega))) (fun n i s hi h hw => ?_)
  have h1 := h.1
  refine pk_le 64 i (fun z => absurd z (by omega)) (fun _ => ⟨pk_in (i - 1) 64 (by omega) (pk_sub (a := i) (b := 1) (by omega)), wm_p, pk_in i 64 hi, nm_e (nm_r (nI_1 i) (hw _ ⟨by omega, ?_⟩))⟩)
  rw [nI_clamp (by omega), pk_un (by omega)]
  exact h.2
end
section
/-! ===== the law, from its end ===== -/
section
variable {post : Int32 → St0 → Prop} {mc ms kc ks n m a b : Nat} {x0 x1 x2 x3 x4 x5 x6 x7 x8 x10 f0 f1 f2 : Int32} {a1 a2 a3 a4 a5 a6 : Nat → Int32}
theorem wm_330 {z0 z1 : Int32} (hp : post 1 ()) (e : z1 = z0) : wL_lawOf_330 post mc ms z0 z1 kc ks := br_t e hp
theorem wm_295 {z0 z1 : Int32} (hp : post 1 ()) (hn : n ≤ 1) (hm : m ≤ 1) (ha : a < 5) (hb : b < 5) (hu : wm_Ok n m a b (f0, f1, f2, a1, a2, a3, a4, a5, a6)) (e : z1 = z0) :
    wL_lawOf_295 post mc ms x2 (nI n) (nI (wm_w m a b)) z0 z1 kc ks f0 f1 f2 a1 a2 a3 a4 a5 a6 := by
  have hw := wm_wl m a b
  refine br_t e (wm_turnM hn hm ha hb hu (fun hh u' ok' => ?_) (fun n1 i0 u' ok' => ?_))
  · obtain ⟨c0, c1, c2, c3, c4, c5, c6, c7, c8⟩ := u'
    exact pk_eq n 0 (fun _ => wm_330 hp rfl) (fun z => br_f (fun t => hh ⟨by omega, t⟩) (wm_330 hp rfl))
  · obtain ⟨c0, c1, c2, c3, c4, c5, c6, c7, c8⟩ := u'
    exact pk_eq n 0 (fun z => absurd z (by omega)) (fun _ => br_t i0 (pk_eq (wm_w m a b) 0 (fun z => wm_330 hp (by rw [z]; rfl)) (fun z => wm_330 hp (by rw [show wm_w m a b = 1 by omega]; rfl))))
theorem wm_258 {z0 : Int32} (hp : post 1 ()) (hn : n ≤ 1) (hm : m ≤ 1) (ha : a < 5) (hb : b < 5) (hu : wm_Ok n m a b (f0, f1, f2, a1, a2, a3, a4, a5, a6))
    (hz0 : wm_w m a b = 0 → z0.toInt = ((n + 1 - m : Nat) : Int) - 1) (hz1 : wm_w m a b ≠ 0 → z0.toInt = -1) :
    wL_lawOf_258 post mc ms x2 x4 (nI n) (nI (wm_w m a b)) z0 kc ks f0 f1 f2 a1 a2 a3 a4 a5 a6 := by
  have elt : ∀ j : Nat, j < 2 ^ 31 → (nI j < x4 ↔ (j : Int) < x4.toInt) := fun j hj => by rw [Int32.lt_iff_toInt_lt, nI_toInt hj]
  have ez4 : z0 < x4 ↔ z0.toInt < x4.toInt := Int32.lt_iff_toInt_lt
  have e04 : (0 : Int32) ≤ x4 ↔ 0 ≤ x4.toInt := by rw [Int32.le_iff_toInt_le, show (0 : Int32).toInt = 0 by decide]
  have e0z : (0 : Int32) ≤ z0 ↔ 0 ≤ z0.toInt := by rw [Int32.le_iff_toInt_le, show (0 : Int32).toInt = 0 by decide]
  unfold wL_lawOf_258
  refine wm_next hn hm ha hb hu (fun hj u' ok' => ?_) (fun i hi hx w0 hj u' ok' => ?_)
  · obtain ⟨c0, c1, c2, c3, c4, c5, c6, c7, c8⟩ := u'
    have fin : wL_lawOf_279 post mc ms x2 (nI n) (nI (wm_w m a b)) (-3) kc ks c0 c1 c2 c3 c4 c5 c6 c7 c8 := wm_295 hp hn hm ha hb ok' rfl
    refine br_c (fun _ => fin) (fun z => br_f (fun t => ?_) fin)
    rw [ez4] at z
    rw [e0z] at t
    by_cases w0 : wm_w m a b = 0
    · have hz := hz0 w0
      have hl := (hj (n + 1 - m - 1) (by omega)).resolve_right (fun t => t w0)
      rw [elt _ (by omega)] at hl
      omega
    · have hz := hz1 w0
      omega
  · obtain ⟨c0, c1, c2, c3, c4, c5, c6, c7, c8⟩ := u'
    have hz := hz0 w0
    rw [elt _ (by omega)] at hx
    have hl : 0 < i → (i : Int) - 1 < x4.toInt := by
      intro h
      have t := hj (i - 1) (by omega)
      rw [elt _ (by omega)] at t
      omega
    refine br_f (fun t => ?_) (br_t (e0z.mpr (by omega)) (br_c (fun t => wm_295 hp hn hm ha hb ok' ?_) (fun t => wm_295 hp hn hm ha hb ok' ?_)))
    · rw [ez4] at t
      omega
    · rw [e04] at t
      refine Int32.toInt_inj.mp ?_
      rw [nI_toInt (by omega)]
      omega
    · rw [e04] at t
      rw [show i = 0 by omega]
      rfl
theorem wm_240 {z0 z1 : Int32} (hp : post 1 ()) (hn : n ≤ 1) (hm : m ≤ 1) (ha : a < 5) (hb : b < 5) (hu : wm_Ok n m a b (f0, f1, f2, a1, a2, a3, a4, a5, a6)) (e : z1 = z0) :
    wL_lawOf_240 post mc ms x2 x4 (nI n) (nI (wm_w m a b)) (nI (n + 1 - m)) z0 z1 kc ks f0 f1 f2 a1 a2 a3 a4 a5 a6 := by
  have hw := wm_wl m a b
  refine br_t e (pk_eq (wm_w m a b) 0 (fun z => wm_258 hp hn hm ha hb hu (fun _ => ?_) (fun t => absurd z t)) (fun z => wm_258 hp hn hm ha hb hu (fun t => absurd t z) (fun _ => by decide)))
  exact pk_sub_toInt (a := n + 1 - m) (b := 1) (by omega) (by decide)
theorem wm_212 (hp : post 1 ()) (hn : n ≤ 1) (hm : m ≤ 1) (ha : a < 5) (hb : b < 5) (hu : wm_Ok n m a b (f0, f1, f2, a1, a2, a3, a4, a5, a6)) :
    wL_lawOf_212 post mc ms x2 x3 x4 (nI n) (nI (wm_w m a b)) (nI (n + 1 - m)) kc ks f0 f1 f2 a1 a2 a3 a4 a5 a6 := by
  have hw := wm_wl m a b
  have h231 : ∀ (r : Int32) (c0 c1 c2 : Int32) (c3 c4 c5 c6 c7 c8 : Nat → Int32), wm_Ok n m a b (c0, c1, c2, c3, c4, c5, c6, c7, c8) → (x3 < nI (wm_w m a b) → r = 0) → (¬ x3 < nI (wm_w m a b) → r = nI (n + 1 - m)) → wL_lawOf_231 post mc ms x2 x4 (nI n) (nI (wm_w m a b)) (nI (n + 1 - m)) (nI (wm_w m a b)) x3 r kc ks c0 c1 c2 c3 c4 c5 c6 c7 c8 := by
    intro r c0 c1 c2 c3 c4 c5 c6 c7 c8 ok h0 h1
    refine br_c (fun z => wm_240 hp hn hm ha hb ok (h1 ?_)) (fun z => wm_240 hp hn hm ha hb ok (h0 ?_))
    · rw [Int32.le_iff_toInt_le] at z
      rw [Int32.lt_iff_toInt_lt]
      omega
    · rw [Int32.le_iff_toInt_le] at z
      rw [Int32.lt_iff_toInt_lt]
      omega
  have fin : ∀ (r : Int32) (c0 c1 c2 : Int32) (c3 c4 c5 c6 c7 c8 : Nat → Int32), wm_Ok n m a b (c0, c1, c2, c3, c4, c5, c6, c7, c8) → (x3 < nI (wm_w m a b) → r = 0) → (¬ x3 < nI (wm_w m a b) → r = nI (n + 1 - m)) →
      ((nI (wm_w m a b) = 0 → wL_lawOf_231 post mc ms x2 x4 (nI n) (nI (wm_w m a b)) (nI (n + 1 - m)) 0 x3 r kc ks c0 c1 c2 c3 c4 c5 c6 c7 c8) ∧ (¬ nI (wm_w m a b) = 0 → wL_lawOf_231 post mc ms x2 x4 (nI n) (nI (wm_w m a b)) (nI (n + 1 - m)) 1 x3 r kc ks c0 c1 c2 c3 c4 c5 c6 c7 c8)) := by
    intro r c0 c1 c2 c3 c4 c5 c6 c7 c8 ok h0 h1
    have h := h231 r c0 c1 c2 c3 c4 c5 c6 c7 c8 ok h0 h1
    refine pk_eq (wm_w m a b) 0 (fun z => ?_) (fun z => ?_)
    · rw [z] at h ⊢
      exact h
    · rw [show wm_w m a b = 1 by omega] at h ⊢
      exact h
  unfold wL_lawOf_212
  refine wm_within hn hm ha hb hu (fun z u' ok' => ?_) (fun z u' ok' => ?_)
  · obtain ⟨c0, c1, c2, c3, c4, c5, c6, c7, c8⟩ := u'
    exact fin _ _ _ _ _ _ _ _ _ _ ok' (fun _ => rfl) (fun t => absurd z t)
  · obtain ⟨c0, c1, c2, c3, c4, c5, c6, c7, c8⟩ := u'
    exact fin _ _ _ _ _ _ _ _ _ _ ok' (fun t => absurd t z) (fun _ => rfl)
theorem wm_179 {z0 z1 : Int32} (hp : post 1 ()) (hn : n ≤ 1) (hm : m ≤ 1) (ha : a < 5) (hb : b < 5) (hu : wm_Ok n m a b (f0, f1, f2, a1, a2, a3, a4, a5, a6)) (e : z1 = z0) :
    wL_lawOf_179 post mc ms x2 x3 x4 (nI n) (nI m) (nI (wm_w m a b)) z0 z1 kc ks f0 f1 f2 a1 a2 a3 a4 a5 a6 := by
  have h := wm_212 (x2 := x2) (x3 := x3) (x4 := x4) (mc := mc) (ms := ms) (kc := kc) (ks := ks) hp hn hm ha hb hu
  refine br_t e (pk_eq m 0 (fun z => pk_eq n 0 (fun y => ?_) (fun y => ?_)) (fun z => pk_eq n 0 (fun y => ?_) (fun y => ?_)))
  · rw [show n + 1 - m = 1 by omega] at h
    exact h
  · rw [show n + 1 - m = 2 by omega] at h
    exact h
  · rw [show n + 1 - m = 0 by omega] at h
    exact h
  · rw [show n + 1 - m = 1 by omega] at h
    exact h
theorem wm_148 {z0 z1 : Int32} (hp : post 1 ()) (hn : n ≤ 1) (hm : m ≤ 1) (ha : a < 5) (hb : b < 5) (hu : wm_Ok n m a b (f0, f1, f2, a1, a2, a3, a4, a5, a6)) (e : z1 = z0)
    (h7 : (x7 = 1 ∧ wm_sh n m x2) ∨ (x7 = 0 ∧ ¬ wm_sh n m x2)) :
    wL_lawOf_148 post mc ms x2 x3 x4 (nI n) (nI m) x7 (nI (wm_w m a b)) z0 z1 kc ks f0 f1 f2 a1 a2 a3 a4 a5 a6 := by
  have hw := wm_wl m a b
  refine br_t e (wm_mis hn hm ha hb hu (fun z u' ok' => ?_) (fun z u' ok' => ?_))
  · obtain ⟨c0, c1, c2, c3, c4, c5, c6, c7, c8⟩ := u'
    rcases h7 with ⟨_, h⟩ | ⟨h, _⟩
    · exact absurd h z
    · exact br_t h (wm_179 hp hn hm ha hb ok' rfl)
  · obtain ⟨c0, c1, c2, c3, c4, c5, c6, c7, c8⟩ := u'
    rcases h7 with ⟨h, _⟩ | ⟨_, h⟩
    · refine br_f (by rw [h]; decide) (pk_eq (wm_w m a b) 0 (fun y => wm_179 hp hn hm ha hb ok' ?_) (fun y => wm_179 hp hn hm ha hb ok' ?_))
      · rw [y]; rfl
      · rw [show wm_w m a b = 1 by omega]; rfl
    · exact absurd z h
theorem wm_96 (hp : post 1 ()) (hmc : 7 ≤ mc) (hms : 397 ≤ ms) (A : (n = 1 ∧ a < 5 ∧ x0 = nI a) ∨ (n = 0 ∧ a = 0 ∧ (x0 < 0 ∨ 4 < x0))) (B : (m = 1 ∧ b < 5 ∧ x1 = nI b) ∨ (m = 0 ∧ b = 0 ∧ (x1 < 0 ∨ 4 < x1)))
    (h7 : (x7 = 1 ∧ wm_sh n m x2) ∨ (x7 = 0 ∧ ¬ wm_sh n m x2)) :
    wL_lawOf_96 post mc ms x0 x1 x2 x3 x4 (nI n) (nI m) x7 (nI (wm_w m a b)) 0 0 := by
  have hn : n ≤ 1 := by omega
  have hm : m ≤ 1 := by omega
  have ha : a < 5 := by omega
  have hb : b < 5 := by omega
  have h125 : ∀ (z0 z1 c0 c1 c2 : Int32) (c3 c4 c5 c6 c7 c8 : Nat → Int32), wm_Ok n 0 a 0 (c0, c1, c2, c3, c4, c5, c6, c7, c8) → z1 = z0 → wL_lawOf_125 post mc ms x1 x2 x3 x4 (nI n) (nI m) x7 (nI (wm_w m a b)) z0 z1 (0 + 1 + 6) (0 + 9 + 388) c0 c1 c2 c3 c4 c5 c6 c7 c8 := by
    intro z0 z1 c0 c1 c2 c3 c4 c5 c6 c7 c8 ok e
    refine br_t e (wm_typeP ok B (fun m1 u' ok' => ?_) (fun m0 u' ok' => ?_))
    · obtain ⟨d0, d1, d2, d3, d4, d5, d6, d7, d8⟩ := u'
      exact pk_eq m 0 (fun z => absurd z (by omega)) (fun _ => wm_148 hp hn hm ha hb ok' rfl h7)
    · obtain ⟨d0, d1, d2, d3, d4, d5, d6, d7, d8⟩ := u'
      exact pk_eq m 0 (fun _ => wm_148 hp hn hm ha hb ok' rfl h7) (fun z => absurd m0 z)
  refine ⟨by omega, by omega, 6, 388, by omega, by omega, wm_init (by omega) (by omega) (fun u hu => ?_)⟩
  obtain ⟨c0, c1, c2, c3, c4, c5, c6, c7, c8⟩ := u
  refine wm_typeT hu A (fun n1 u' ok' => ?_) (fun n0 u' ok' => ?_)
  · obtain ⟨d0, d1, d2, d3, d4, d5, d6, d7, d8⟩ := u'
    exact pk_eq n 0 (fun z => absurd z (by omega)) (fun _ => h125 _ _ _ _ _ _ _ _ _ _ _ ok' rfl)
  · obtain ⟨d0, d1, d2, d3, d4, d5, d6, d7, d8⟩ := u'
    exact pk_eq n 0 (fun _ => h125 _ _ _ _ _ _ _ _ _ _ _ ok' rfl) (fun z => absurd n0 z)
theorem wm_66 (A : (n = 1 ∧ a < 5 ∧ x0 = nI a) ∨ (n = 0 ∧ a = 0 ∧ (x0 < 0 ∨ 4 < x0))) (B : (m = 1 ∧ b < 5 ∧ x1 = nI b) ∨ (m = 0 ∧ b = 0 ∧ (x1 < 0 ∨ 4 < x1)))
    (K : wL_lawOf_96 post mc ms x0 x1 x2 x3 x4 (nI n) (nI m) x7 (nI (wm_w m a b)) 0 0) : wL_lawOf_66 post mc ms x0 x1 x2 x3 x4 (nI n) (nI m) x7 0 0 := by
  have k0 : wm_w m a b = 0 → wL_lawOf_95 post mc ms x0 x1 x2 x3 x4 (nI n) (nI m) x7 0 0 := fun e => by
    rw [e] at K
    exact K
  have d0 : ¬ (a ≠ b ∧ a ≠ 0 ∧ b ≠ 0) → wm_w m a b = 0 := fun e => by
    unfold wm_w wm_df
    rw [if_neg e]
    split <;> rfl
  have hn : n ≤ 1 := by omega
  have hm : m ≤ 1 := by omega
  refine pk_eq n 0 (fun z => k0 (d0 (by omega))) (fun z => pk_eq m 0 (fun y => k0 (if_pos y)) (fun y => ?_))
  have xa : a < 5 ∧ x0 = nI a := by
    rcases A with ⟨_, h⟩ | ⟨h, _⟩
    · exact h
    · exact absurd h z
  have xb : b < 5 ∧ x1 = nI b := by
    rcases B with ⟨_, h⟩ | ⟨h, _⟩
    · exact h
    · exact absurd h y
  obtain ⟨ha, rfl⟩ := xa
  obtain ⟨hb, rfl⟩ := xb
  refine pk_eq a b (fun e => k0 (d0 (by omega))) (fun e => pk_eq a 0 (fun e0 => k0 (d0 (by omega))) (fun e0 => pk_eq b 0 (fun e1 => k0 (d0 (by omega))) (fun e1 => ?_)))
  have w1 : wm_w m a b = 1 := by
    unfold wm_w wm_df
    rw [if_neg y, if_pos ⟨e, e0, e1⟩]
  rw [w1] at K
  exact K
theorem wm_30 (A : (n = 1 ∧ a < 5 ∧ x0 = nI a) ∨ (n = 0 ∧ a = 0 ∧ (x0 < 0 ∨ 4 < x0))) (B : (m = 1 ∧ b < 5 ∧ x1 = nI b) ∨ (m = 0 ∧ b = 0 ∧ (x1 < 0 ∨ 4 < x1)))
    (K : ∀ x7 : Int32, (x7 = 1 ∧ wm_sh n m x2) ∨ (x7 = 0 ∧ ¬ wm_sh n m x2) → wL_lawOf_96 post mc ms x0 x1 x2 x3 x4 (nI n) (nI m) x7 (nI (wm_w m a b)) 0 0) :
    wL_lawOf_30 post mc ms x0 x1 x2 x3 x4 (nI n) (nI m) 0 0 := by
  have hn : n ≤ 1 := by omega
  have hm : m ≤ 1 := by omega
  have k1 : wm_sh n m x2 → wL_lawOf_61 post mc ms x0 x1 x2 x3 x4 (nI n) (nI m) 0 0 := fun h => wm_66 A B (K 1 (Or.inl ⟨rfl, h⟩))
  have k0 : ¬ wm_sh n m x2 → wL_lawOf_65 post mc ms x0 x1 x2 x3 x4 (nI n) (nI m) 0 0 := fun h => wm_66 A B (K 0 (Or.inr ⟨rfl, h⟩))
  have k46 : ¬ (x2 = 0 ∧ (n = 1 ∨ m = 0)) → wL_lawOf_46 post mc ms x0 x1 x2 x3 x4 (nI n) (nI m) 0 0 := by
    intro h
    refine br_c (fun e => pk_eq n 0 (fun z => k0 (fun t => ?_)) (fun z => pk_eq m 0 (fun y => k1 (Or.inr ⟨e, by omega, y⟩)) (fun y => k0 (fun t => ?_)))) (fun e => k0 (fun t => ?_))
    · rcases t with t | t
      · exact h t
      · omega
    · rcases t with t | t
      · exact h t
      · omega
    · rcases t with t | t
      · exact h t
      · exact e t.1
  refine br_c (fun e => pk_eq n 0 (fun z => pk_eq m 0 (fun y => k1 (Or.inl ⟨e, Or.inr y⟩)) (fun y => k46 (fun t => ?_))) (fun z => k1 (Or.inl ⟨e, Or.inl (by omega)⟩))) (fun e => k46 (fun t => e t.1))
  have t2 := t.2
  omega
end
theorem wm_let (x : Int32) : ∃ n a : Nat, ((n = 1 ∧ a < 5 ∧ x = nI a) ∨ (n = 0 ∧ a = 0 ∧ (x < 0 ∨ 4 < x))) ∧ (n = 1 → ¬ x < 0 ∧ ¬ 4 < x) := by
  by_cases h0 : x < 0
  · exact ⟨0, 0, Or.inr ⟨rfl, rfl, Or.inl h0⟩, fun h => absurd h (by decide)⟩
  · by_cases h4 : 4 < x
    · exact ⟨0, 0, Or.inr ⟨rfl, rfl, Or.inr h4⟩, fun h => absurd h (by decide)⟩
    · have h5 : x ≤ 4 := by
        rw [Int32.lt_iff_toInt_lt] at h4
        rw [Int32.le_iff_toInt_le]
        omega
      obtain ⟨j, hj, e⟩ := nI_of2 (M := 4) (n := 4) (by decide) h0 h5
      exact ⟨1, j, Or.inl ⟨rfl, by omega, e⟩, fun _ => ⟨h0, h4⟩⟩
theorem wm_lawOf {post : Int32 → St0 → Prop} {mc ms : Nat} (hp : post 1 ()) (hmc : 7 ≤ mc) (hms : 397 ≤ ms) (x0 x1 x2 x3 x4 : Int32) : wpL_lawOf post mc ms () x0 x1 x2 x3 x4 := by
  obtain ⟨n, a, A, A2⟩ := wm_let x0
  obtain ⟨m, b, B, B2⟩ := wm_let x1
  have k30 : wL_lawOf_30 post mc ms x0 x1 x2 x3 x4 (nI n) (nI m) 0 0 := wm_30 A B (fun x7 h7 => wm_96 hp hmc hms A B h7)
  have k14 : wL_lawOf_14 post mc ms x0 x1 x2 x3 x4 (nI n) 0 0 := by
    rcases B with ⟨rfl, _, _⟩ | ⟨rfl, _, hx⟩
    · exact br_f (B2 rfl).1 (br_f (B2 rfl).2 k30)
    · refine br_c (fun _ => k30) (fun z => br_t ?_ k30)
      exact hx.resolve_left z
  rcases A with ⟨rfl, _, _⟩ | ⟨rfl, _, hx⟩
  · exact br_f (A2 rfl).1 (br_f (A2 rfl).2 k14)
  · refine br_c (fun _ => k14) (fun z => br_t ?_ k14)
    exact hx.resolve_left z
theorem wm_cell {post : Int32 → Prop} {L : Nat} {xs : Nat → Int32} (k : Nat) {p : Int32} (hL : L ≤ 5) (hk : k < 5) (e : p = nI k) (H : ∀ r, post r) : wpL_cellAt post L xs () p := by
  subst e
  exact pk_le L k (fun _ => H _) (fun z => ⟨pk_in k L z, H _⟩)
theorem i_vc (xs : Nat → Int32) (L : Nat) (hL : L ≤ 5) : wpL_law (fun r => r = 1) L xs :=
  wm_cell 0 hL (by decide) rfl (fun r1 => wm_cell 1 hL (by decide) rfl (fun r2 => wm_cell 2 hL (by decide) rfl (fun r3 => wm_cell 3 hL (by decide) rfl (fun r4 => wm_cell 4 hL (by decide) rfl (fun r5 => ⟨194, 3088, by omega, by omega, wm_lawOf rfl (by omega) (by omega) r1 r2 r3 r4 r5⟩)))))
end
