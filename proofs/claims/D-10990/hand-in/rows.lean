section
/-- the first N places of f hold naturals up to H -/
def sd_bd (f : Nat → Int32) (N H : Nat) : Prop := ∀ j, j < N → ∃ k, k ≤ H ∧ f j = nI k
theorem sd_bdU {f : Nat → Int32} {N H i k : Nat} {x : Int32} (h : sd_bd f N H) (hx : x = nI k) (hk : k ≤ H) : sd_bd (upd f i x) N H := by
  intro j hj
  by_cases e : j = i
  · rw [e, pk_us]
    exact ⟨k, hk, hx⟩
  · rw [pk_un e]
    exact h j hj
theorem sd_mix (d i : Nat) : nI d * 16 + nI i = nI (d * 16 + i) := by
  rw [show (16 : Int32) = nI 16 from rfl, pk_mul, nI_add]
theorem sd_m1 (x : Int32) : x + (-1) = x - 1 := by
  rw [Int32.sub_eq_add_neg]
theorem sd_pr {n : Nat} (h : 0 < n) : nI n - 1 = nI (n - 1) := by
  obtain ⟨k, rfl⟩ : ∃ k, n = k + 1 := ⟨n - 1, by omega⟩
  exact nI_pred k
theorem sd_copy {post : Int32 → St2 → Prop} {st pl : Int32} {a1 a2 a3 a4 a5 a6 a7 a8 a9 a10 a11 a12 a13 a14 a15 a16 a17 : Nat → Int32} {p0 p1 p2 : Int32} {f l t : Nat} (h0 : p0 = nI f) (h1 : p1 = nI l) (h2 : p2 = nI t) (hf : f < 2 ^ 28) (hl : l ≤ 16) (ht : t < 2 ^ 20)
    (H : ∀ t' b14, t' ≤ t + 16 → post (nI t') (st, pl, a1, a2, a3, a4, a5, a6, a7, a8, a9, a10, a11, a12, a13, b14, a15, a16, a17)) : wpX_copyBytes post (st, pl, a1, a2, a3, a4, a5, a6, a7, a8, a9, a10, a11, a12, a13, a14, a15, a16, a17) p0 p1 p2 := by
  subst h0 h1 h2
  exact pk_loop (σ := Nat × (Nat → Int32)) (fun n i s => wX_copyBytes_6 post (nI f) (nI l) st pl n (nI s.1) (nI i) a1 a2 a3 a4 a5 a6 a7 a8 a9 a10 a11 a12 a13 s.2 a15 a16 a17) (fun i s => s.1 ≤ t + i) l 0 (t, a14) (by omega) (Nat.le_refl t)
    (fun n s h => pk_le l l (fun _ => H s.1 s.2 (by omega)) (fun z => absurd z (by omega)))
    (fun n i s hi h hw => pk_le l i (fun z => absurd z (by omega)) (fun _ =>
      pk_le 16 s.1 (fun _ => H s.1 s.2 (by omega)) (fun z1 =>
        pk_le 16 (f + i) (fun _ => H s.1 s.2 (by omega)) (fun z2 =>
          ⟨pk_in (f + i) 16 z2 (nI_add f i), pk_in s.1 16 z1, nm_e (nm_r (nI_1 s.1) (nm_r (nI_1 i) (hw (s.1 + 1, _) (show s.1 + 1 ≤ t + (i + 1) by omega))))⟩) rfl (nI_add f i))))
theorem sd_run30 {post : St2 → Prop} {st pl : Int32} {a1 a2 a3 a4 a5 a6 a7 a8 a9 a10 a11 a12 a13 a14 a15 a16 a17 : Nat → Int32} {d c : Nat} (hd : d < 96) (hc : c ≤ 16) (h8 : a8 d = nI c)
    (H : ∀ b14, post (st, pl, a1, a2, a3, a4, a5, a6, a7, a8, a9, a10, a11, a12, a13, b14, a15, a16, a17)) : ∃ n, wX_runProgram_30 post (nI d) n 0 0 st pl a1 a2 a3 a4 a5 a6 a7 a8 a9 a10 a11 a12 a13 a14 a15 a16 a17 := by
  have e8 : a8 (nI d).toNatClampNeg = nI c := by
    rw [nI_clamp (by omega)]
    exact h8
  refine pk_loop (σ := Nat × (Nat → Int32)) (fun n i s => wX_runProgram_30 post (nI d) n (nI s.1) (nI i) st pl a1 a2 a3 a4 a5 a6 a7 a8 a9 a10 a11 a12 a13 s.2 a15 a16 a17) (fun i s => s.1 ≤ 16 * i) c 0 (0, a14) (by omega) (Nat.le_refl 0)
    (fun n s h => ⟨pk_in d 96 hd, pk_le c c (fun _ => H s.2) (fun z => absurd z (by omega)) e8⟩)
    (fun n i s hi h hw => ⟨pk_in d 96 hd, pk_le c i (fun z => absurd z (by omega)) (fun _ => ⟨pk_in (d * 16 + i) 1536 (by omega) (sd_mix d i), nm_e (br_c (fun z => ?_) (fun z => ?_))⟩) e8⟩)
  · have hx : ∃ j : Nat, j < 2 ^ 31 ∧ 256 ≤ j ∧ a9 (nI d * 16 + nI i).toNatClampNeg = nI j := by
      obtain ⟨j, hj, e⟩ := nI_of (x := a9 (nI d * 16 + nI i).toNatClampNeg) (fun g => by
        have z' : (256 : Int32).toInt ≤ (a9 (nI d * 16 + nI i).toNatClampNeg).toInt := Int32.le_iff_toInt_le.mp z
        have g' := Int32.lt_iff_toInt_lt.mp g
        have q1 : (256 : Int32).toInt = 256 := by decide
        have q2 : (0 : Int32).toInt = 0 := by decide
        omega)
      rw [e] at z
      exact ⟨j, hj, (nI_leI (a := 256) (by omega) hj).mp z, e⟩
    obtain ⟨j, hj, hj2, ej⟩ := hx
    obtain ⟨y, hy, ey⟩ := pk_andE (a9 (nI d * 16 + nI i).toNatClampNeg - 256) (m := 15) 4 (by decide)
    refine sd_copy (f := (j - 256) / 2 ^ 4) (l := y + 1) (t := s.1) ?_ ?_ rfl (by omega) (by omega) (by omega) (fun t' b14 ht' => nm_r (nI_1 i) (hw (t', b14) (show t' ≤ 16 * (i + 1) by omega)))
    · rw [ej, show (256 : Int32) = nI 256 from rfl, pk_sub hj2]
      exact pk_shrN (by omega) _ 4 (by decide)
    · rw [ey, nI_1]
  · exact pk_le 16 s.1 (fun _ => nm_r (nI_1 s.1) (nm_r (nI_1 i) (hw (s.1 + 1, s.2) (show s.1 + 1 ≤ 16 * (i + 1) by omega)))) (fun z1 => ⟨pk_in s.1 16 z1, nm_e (nm_r (nI_1 s.1) (nm_r (nI_1 i) (hw (s.1 + 1, _) (show s.1 + 1 ≤ 16 * (i + 1) by omega))))⟩)
theorem sd_run {post : St2 → Prop} {st pl : Int32} {a1 a2 a3 a4 a5 a6 a7 a8 a9 a10 a11 a12 a13 a14 a15 a16 a17 : Nat → Int32} {d : Nat} {p0 : Int32} (hp : p0 = nI d) (hd : d < 96) (h8 : sd_bd a8 96 16)
    (H : ∀ b14 b15, post (st, pl, a1, a2, a3, a4, a5, a6, a7, a8, a9, a10, a11, a12, a13, b14, b15, a16, a17)) : wpX_runProgram post (st, pl, a1, a2, a3, a4, a5, a6, a7, a8, a9, a10, a11, a12, a13, a14, a15, a16, a17) p0 := by
  subst hp
  obtain ⟨c, hc, e8⟩ := h8 d hd
  exact pk_loop (fun n i s => wX_runProgram_2 post (nI d) st pl n (nI i) a1 a2 a3 a4 a5 a6 a7 a8 a9 a10 a11 a12 a13 a14 s a16 a17) (fun _ _ => True) 16 0 a15 (by omega) trivial
    (fun n s _ => pk_le 16 16 (fun _ => sd_run30 hd hc e8 (fun b => H b s)) (fun z => absurd z (by omega)))
    (fun n i s hi _ hw => pk_le 16 i (fun z => absurd z (by omega)) (fun _ => ⟨pk_in i 16 hi, pk_in i 16 hi, nm_e (nm_r (nI_1 i) (hw _ trivial))⟩))
theorem sd_wo111 {post : St2 → Prop} {st pl : Int32} {a1 a2 a3 a4 a5 a6 a7 a8 a9 a10 a11 a12 a13 a14 a15 a16 a17 : Nat → Int32} {k : Nat} (hk : k ≤ 8) (h8 : sd_bd a8 96 16) (h17 : ∀ j, j < k → ∃ q, q < 96 ∧ a17 j = nI q)
    (H : ∀ b14 b15, post (st, pl, a1, a2, a3, a4, a5, a6, a7, a8, a9, a10, a11, a12, a13, b14, b15, a16, a17)) : ∃ n, wX_writeOut_111 post n (nI k - 1) st pl a1 a2 a3 a4 a5 a6 a7 a8 a9 a10 a11 a12 a13 a14 a15 a16 a17 := by
  refine ⟨k + 1, pk_loopD (σ := (Nat → Int32) × (Nat → Int32)) (fun n i s => wX_writeOut_111 post n (nI i - 1) st pl a1 a2 a3 a4 a5 a6 a7 a8 a9 a10 a11 a12 a13 s.1 s.2 a16 a17) (fun i _ => i ≤ k) ?_ ?_ k (a14, a15) (Nat.le_refl k)⟩
  · intro n s _
    exact br_t (by decide) (H s.1 s.2)
  · intro n i s hi hw
    obtain ⟨q, hq, e⟩ := h17 i (by omega)
    have e17 : a17 (nI i).toNatClampNeg = nI q := by
      rw [nI_clamp (by omega)]
      exact e
    show wX_writeOut_111 post (n + 1) (nI (i + 1) - 1) st pl a1 a2 a3 a4 a5 a6 a7 a8 a9 a10 a11 a12 a13 s.1 s.2 a16 a17
    rw [nI_pred]
    exact br_f (nI_pos (by omega)) ⟨pk_in i 8 (by omega), sd_run e17 hq h8 (fun b14 b15 => nm_r (sd_m1 (nI i)) (hw (b14, b15) (show i ≤ k by omega)))⟩
theorem sd_wo58 {post : St2 → Prop} {st pl : Int32} {a1 a2 a3 a4 a5 a6 a7 a8 a9 a10 a11 a12 a13 a14 a15 a16 a17 : Nat → Int32} {n : Nat} (h0 : 0 < n) (hn : n ≤ 8) (h6 : sd_bd a6 96 16) (h8 : sd_bd a8 96 16) (h17 : ∀ j, j < n → ∃ q, q < 96 ∧ a17 j = nI q)
    (H : ∀ b14 b15, post (st, pl, a1, a2, a3, a4, a5, a6, a7, a8, a9, a10, a11, a12, a13, b14, b15, a16, a17)) : wX_writeOut_58 post (nI n) st pl a1 a2 a3 a4 a5 a6 a7 a8 a9 a10 a11 a12 a13 a14 a15 a16 a17 := by
  obtain ⟨q, hq, e⟩ := h17 (n - 1) (by omega)
  have e17 : a17 (nI n - 1).toNatClampNeg = nI q := by
    rw [sd_pr h0, nI_clamp (by omega)]
    exact e
  obtain ⟨z, hz, ez⟩ := h6 q hq
  have e6 : a6 (nI q).toNatClampNeg = nI z := by
    rw [nI_clamp (by omega)]
    exact ez
  have e2 : nI n - 2 = nI (n - 1) - 1 := by
    rw [← sd_pr h0]
    grind
  refine ⟨pk_in (n - 1) 8 (by omega) (sd_pr h0), nm_r e17 ?_⟩
  exact pk_loop (fun m i s => wX_writeOut_70 post (nI n) (nI q) st pl m (nI i) a1 a2 a3 a4 a5 a6 a7 a8 a9 a10 a11 a12 a13 s a15 a16 a17) (fun _ _ => True) z 0 a14 (by omega) trivial
    (fun m s _ => ⟨pk_in q 96 hq, pk_le z z (fun _ => nm_r e2 (sd_wo111 (by omega) h8 (fun j hj => h17 j (by omega)) H)) (fun g => absurd g (by omega)) e6⟩)
    (fun m i s hi _ hw => ⟨pk_in q 96 hq, pk_le z i (fun g => absurd g (by omega)) (fun _ => ⟨pk_in (q * 16 + i) 1536 (by omega) (sd_mix q i), pk_in i 16 (by omega), nm_e (nm_r (nI_1 i) (hw _ trivial))⟩) e6⟩)
/-- writeOut ends, and changes out, under and chain alone -/
theorem sd_wo {post : St2 → Prop} {st pl : Int32} {a1 a2 a3 a4 a5 a6 a7 a8 a9 a10 a11 a12 a13 a14 a15 a16 a17 : Nat → Int32} {d : Nat} {p0 : Int32} (hp : p0 = nI d) (hd : d < 96) (h6 : sd_bd a6 96 16) (h7 : sd_bd a7 96 96) (h8 : sd_bd a8 96 16)
    (H : ∀ b14 b15 b17, post (st, pl, a1, a2, a3, a4, a5, a6, a7, a8, a9, a10, a11, a12, a13, b14, b15, a16, b17)) : wpX_writeOut post (st, pl, a1, a2, a3, a4, a5, a6, a7, a8, a9, a10, a11, a12, a13, a14, a15, a16, a17) p0 := by
  subst hp
  refine nm_e (pk_loop (fun n i s => wX_writeOut_9 post st pl n (nI i) a1 a2 a3 a4 a5 a6 a7 a8 a9 a10 a11 a12 a13 a14 a15 a16 s) (fun i s => 1 ≤ i ∧ ∀ j, j < i → ∃ q, q < 96 ∧ s j = nI q) 8 1 (upd a17 0 (nI d)) (by omega) ⟨by omega, ?_⟩ ?_ ?_)
  · intro j hj
    have ej : j = 0 := by omega
    rw [ej, pk_us]
    exact ⟨d, hd, rfl⟩
  · intro n s h
    exact pk_le 8 8 (fun _ => sd_wo58 (by omega) (by omega) h6 h8 h.2 (fun b14 b15 => H b14 b15 s)) (fun z => absurd z (by omega))
  · intro n i s hi h hw
    obtain ⟨h1, h2⟩ := h
    obtain ⟨q, hq, e⟩ := h2 (i - 1) (by omega)
    have e17 : s (nI i - 1).toNatClampNeg = nI q := by
      rw [sd_pr (by omega), nI_clamp (by omega)]
      exact e
    obtain ⟨b, hb, eb⟩ := h7 q hq
    have e7 : a7 (s (nI i - 1).toNatClampNeg).toNatClampNeg = nI b := by
      rw [e17, nI_clamp (by omega)]
      exact eb
    refine pk_le 8 i (fun z => absurd z (by omega)) (fun _ => ⟨pk_in (i - 1) 8 (by omega) (sd_pr (by omega)), pk_in q 96 hq e17, pk_le b 0 (fun _ => ?_) (fun z => ?_) e7⟩)
    · exact sd_wo58 (by omega) (by omega) h6 h8 h2 (fun b14 b15 => H b14 b15 s)
    · refine ⟨pk_in (i - 1) 8 (by omega) (sd_pr (by omega)), pk_in q 96 hq e17, pk_in i 8 hi, nm_e (nm_r (nI_1 i) (hw _ ⟨by omega, ?_⟩))⟩
      intro j hj
      rw [e7, nI_clamp (by omega), sd_pr z]
      by_cases ej : j = i
      · rw [ej, pk_us]
        exact ⟨b - 1, by omega, rfl⟩
      · rw [pk_un ej]
        exact h2 j (by omega)
end
section
theorem sd_oif {post : Int32 → Prop} {st pl : Int32} {a1 a2 a3 a4 a5 a6 a7 a8 a9 a10 a11 a12 a13 a14 a15 a16 a17 : Nat → Int32} {l : Nat} {p0 : Int32} (hp : p0 = nI l) (hl : l ≤ 16) (H : ∀ r, post r) : wpX_outIsFresh post (st, pl, a1, a2, a3, a4, a5, a6, a7, a8, a9, a10, a11, a12, a13, a14, a15, a16, a17) p0 := by
  subst hp
  exact pk_loop (σ := Unit) (fun n i _ => wX_outIsFresh_2 post (nI l) st pl a1 a2 a3 a4 a5 a6 a7 a8 a9 a10 a11 a12 a13 a14 a15 a16 a17 n (nI i)) (fun _ _ => True) l 0 () (by omega) trivial
    (fun n _ _ => pk_le l l (fun _ => H _) (fun z => absurd z (by omega)))
    (fun n i _ hi _ hw => pk_le l i (fun z => absurd z (by omega)) (fun _ => ⟨pk_in i 16 (by omega), pk_in i 16 (by omega), br_c (fun _ => nm_r (nI_1 i) (hw () trivial)) (fun _ => H _)⟩))
/-- findEqual: no chunk, or one in use with this length; it changes out, under and chain alone -/
theorem sd_fe {post : Int32 → St2 → Prop} {st pl : Int32} {a1 a2 a3 a4 a5 a6 a7 a8 a9 a10 a11 a12 a13 a14 a15 a16 a17 : Nat → Int32} {l : Nat} {p0 p1 : Int32} (hp : p1 = nI l) (hl : l ≤ 16) (h6 : sd_bd a6 96 16) (h7 : sd_bd a7 96 96) (h8 : sd_bd a8 96 16)
    (H0 : ∀ b14 b15 b17, post (-1) (st, pl, a1, a2, a3, a4, a5, a6, a7, a8, a9, a10, a11, a12, a13, b14, b15, a16, b17))
    (H1 : ∀ q b14 b15 b17, q < 96 → ¬ a5 q ≤ 0 → a6 q = nI l → post (nI q) (st, pl, a1, a2, a3, a4, a5, a6, a7, a8, a9, a10, a11, a12, a13, b14, b15, a16, b17)) : wpX_findEqual post (st, pl, a1, a2, a3, a4, a5, a6, a7, a8, a9, a10, a11, a12, a13, a14, a15, a16, a17) p0 p1 := by
  subst hp
  refine pk_loop (σ := (Nat → Int32) × (Nat → Int32) × (Nat → Int32)) (fun n i s => wX_findEqual_2 post p0 (nI l) n (nI i) st pl a1 a2 a3 a4 a5 a6 a7 a8 a9 a10 a11 a12 a13 s.1 s.2.1 a16 s.2.2) (fun _ _ => True) 96 0 (a14, a15, a17) (by omega) trivial ?_ ?_
  · intro n s _
    exact pk_le 96 96 (fun _ => H0 _ _ _) (fun z => absurd z (by omega))
  · intro n i s hi _ hw
    have hc : (nI i).toNatClampNeg = i := nI_clamp (by omega)
    refine pk_le 96 i (fun z => absurd z (by omega)) (fun _ => ⟨pk_in i 96 hi, br_c (fun _ => nm_r (nI_1 i) (hw s trivial)) (fun z5 => ⟨pk_in i 96 hi, br_c (fun _ => ⟨pk_in i 96 hi, br_c (fun z6 => ?_) (fun _ => nm_r (nI_1 i) (hw s trivial))⟩) (fun _ => nm_r (nI_1 i) (hw s trivial))⟩)⟩)
    rw [hc] at z5 z6
    refine sd_wo rfl hi h6 h7 h8 (fun b14 b15 b17 => sd_oif rfl hl (fun r => br_c (fun _ => ?_) (fun _ => ?_)))
    · exact nm_r (nI_1 i) (hw (b14, b15, b17) trivial)
    · exact H1 i b14 b15 b17 hi z5 z6
theorem sd_lw34 {post : Int32 → Prop} {J : Int32 → Int32 → Prop} {st pl : Int32} {a1 a2 a3 a4 a5 a6 a7 a8 a9 a10 a11 a12 a13 a14 a15 a16 a17 : Nat → Int32} {x1 x2 x3 x5 : Int32} {w i : Nat} (hw : w ≤ 16) (hi : i + w ≤ 16) (H : ∀ x, J x (nI (i + 1))) : ∃ n, wX_leastWindow_34 post J x1 x2 x3 (nI w) x5 (nI i) st pl a1 a2 a3 a4 a5 a6 a7 a8 a9 a10 a11 a12 a13 a14 a15 a16 a17 n x3 0 :=
  pk_loop (fun n k s => wX_leastWindow_34 post J x1 x2 x3 (nI w) x5 (nI i) st pl a1 a2 a3 a4 a5 a6 a7 a8 a9 a10 a11 a12 a13 a14 a15 a16 a17 n s (nI k)) (fun _ _ => True) w 0 x3 (by omega) trivial
    (fun n s _ => pk_le w w (fun _ => nm_e (nm_e (br_c (fun _ => nm_r (nI_1 i) (H _)) (fun _ => nm_r (nI_1 i) (H _))))) (fun z => absurd z (by omega)))
    (fun n k s hk _ hw => pk_le w k (fun z => absurd z (by omega)) (fun _ => ⟨pk_in (i + k) 16 (by omega) (nI_add i k), nm_e (nm_r (nI_1 k) (hw _ trivial))⟩))
theorem sd_lw19 {post : Int32 → Prop} {st pl : Int32} {a1 a2 a3 a4 a5 a6 a7 a8 a9 a10 a11 a12 a13 a14 a15 a16 a17 : Nat → Int32} {x2 x3 : Int32} {l w : Nat} (hl : l ≤ 16) (hw : w ≤ l) (H : ∀ r, post r) : ∃ n, wX_leastWindow_19 post (nI l) x2 x3 (nI w) st pl a1 a2 a3 a4 a5 a6 a7 a8 a9 a10 a11 a12 a13 a14 a15 a16 a17 n 2147483647 0 :=
  pk_loop (fun n i s => wX_leastWindow_19 post (nI l) x2 x3 (nI w) st pl a1 a2 a3 a4 a5 a6 a7 a8 a9 a10 a11 a12 a13 a14 a15 a16 a17 n s (nI i)) (fun _ _ => True) (l - w + 1) 0 2147483647 (by omega) trivial
    (fun n s _ => pk_lt l (l - w + 1 + w) (fun _ => H _) (fun z => absurd z (by omega)) rfl (nI_add _ _))
    (fun n i s hi _ hw' => pk_lt l (i + w) (fun z => absurd z (by omega)) (fun _ => sd_lw34 (by omega) (by omega) (fun x => hw' x trivial)) rfl (nI_add _ _))
theorem sd_lw {post : Int32 → Prop} {st pl : Int32} {a1 a2 a3 a4 a5 a6 a7 a8 a9 a10 a11 a12 a13 a14 a15 a16 a17 : Nat → Int32} {p0 p1 p2 : Int32} {l : Nat} (hp : p0 = nI l) (hl : l ≤ 16) (H : ∀ r, post r) : wpX_leastWindow post (st, pl, a1, a2, a3, a4, a5, a6, a7, a8, a9, a10, a11, a12, a13, a14, a15, a16, a17) p0 p1 p2 := by
  subst hp
  exact pk_le 4 l (fun z => sd_lw19 (w := 4) hl z H) (fun z => sd_lw19 (w := l) hl (Nat.le_refl l) H)
theorem sd_bb {post : Int32 → Prop} {st pl : Int32} {a1 a2 a3 a4 a5 a6 a7 a8 a9 a10 a11 a12 a13 a14 a15 a16 a17 : Nat → Int32} {p0 : Int32} {d : Nat} (hp : p0 = nI d) (hd : d < 96) (h7 : sd_bd a7 96 96) (H : ∀ r, post r) : wpX_basesBelow post (st, pl, a1, a2, a3, a4, a5, a6, a7, a8, a9, a10, a11, a12, a13, a14, a15, a16, a17) p0 := by
  subst hp
  refine pk_loop (σ := Nat) (fun n i s => wX_basesBelow_4 post st pl a1 a2 a3 a4 a5 a6 a7 a8 a9 a10 a11 a12 a13 a14 a15 a16 a17 n (nI i) (nI s)) (fun _ s => s < 96) 7 0 d (by omega) hd ?_ ?_
  · intro n s _
    exact pk_le 7 7 (fun _ => H _) (fun z => absurd z (by omega))
  · intro n i s hi h hw
    obtain ⟨b, hb, eb⟩ := h7 s h
    have e7 : a7 (nI s).toNatClampNeg = nI b := by
      rw [nI_clamp (by omega)]
      exact eb
    refine pk_le 7 i (fun z => absurd z (by omega)) (fun _ => ⟨pk_in s 96 h, pk_le b 0 (fun _ => H _) (fun z => ⟨pk_in s 96 h, nm_r (e' := nI (b - 1)) ?_ (nm_r (nI_1 i) (hw (b - 1) (by omega)))⟩) e7⟩)
    rw [e7]
    exact sd_pr z
theorem sd_fs50 {post : Int32 → Prop} {J : Int32 → Prop} {st pl : Int32} {a1 a2 a3 a4 a5 a6 a7 a8 a9 a10 a11 a12 a13 a14 a15 a16 a17 : Nat → Int32} {x1 x2 : Int32} {i : Nat} (hi : i < 96) (h7 : sd_bd a7 96 96) (H : post (nI i)) (HJ : J (nI (i + 1))) : wX_findSimilar_50 post J x1 x2 (nI i) st pl a1 a2 a3 a4 a5 a6 a7 a8 a9 a10 a11 a12 a13 a14 a15 a16 a17 :=
  sd_bb rfl hi h7 (fun r => br_c (fun _ => nm_r (nI_1 i) HJ) (fun _ => H))
theorem sd_fs {post : Int32 → Prop} {st pl : Int32} {a1 a2 a3 a4 a5 a6 a7 a8 a9 a10 a11 a12 a13 a14 a15 a16 a17 : Nat → Int32} {p0 p1 p2 : Int32} (h7 : sd_bd a7 96 96) (H0 : post (-1)) (H1 : ∀ q, q < 96 → post (nI q)) : wpX_findSimilar post (st, pl, a1, a2, a3, a4, a5, a6, a7, a8, a9, a10, a11, a12, a13, a14, a15, a16, a17) p0 p1 p2 := by
  refine br_c (fun _ => ?_) (fun _ => H0)
  refine pk_loop (σ := Unit) (fun n i _ => wX_findSimilar_11 post p0 p1 st pl a1 a2 a3 a4 a5 a6 a7 a8 a9 a10 a11 a12 a13 a14 a15 a16 a17 n (nI i)) (fun _ _ => True) 96 0 () (by omega) trivial ?_ ?_
  · intro n s _
    exact pk_le 96 96 (fun _ => H0) (fun z => absurd z (by omega))
  · intro n i s hi _ hw
    exact pk_le 96 i (fun z => absurd z (by omega)) (fun _ => ⟨pk_in i 96 hi, br_c (fun _ => nm_r (nI_1 i) (hw () trivial)) (fun _ => ⟨pk_in i 96 hi, br_c (fun _ => sd_fs50 hi h7 (H1 i hi) (hw () trivial)) (fun _ => ⟨pk_in i 96 hi, br_c (fun _ => sd_fs50 hi h7 (H1 i hi) (hw () trivial)) (fun _ => nm_r (nI_1 i) (hw () trivial))⟩)⟩)⟩)
theorem sd_ml {post : Int32 → Prop} {st pl : Int32} {a1 a2 a3 a4 a5 a6 a7 a8 a9 a10 a11 a12 a13 a14 a15 a16 a17 : Nat → Int32} {p0 p1 p2 p3 : Int32} {i l s o : Nat} (h0 : p0 = nI i) (h1 : p1 = nI l) (h2 : p2 = nI s) (h3 : p3 = nI o) (hi : i ≤ 1000) (hs : s ≤ 1000) (hl : l ≤ 16) (ho : o ≤ 16)
    (H : ∀ m, m ≤ 16 → post (nI m)) : wpX_matchLength post (st, pl, a1, a2, a3, a4, a5, a6, a7, a8, a9, a10, a11, a12, a13, a14, a15, a16, a17) p0 p1 p2 p3 := by
  subst h0 h1 h2 h3
  exact pk_loop (σ := Unit) (fun n m _ => wX_matchLength_3 post (nI i) (nI l) (nI s) (nI o) st pl a1 a2 a3 a4 a5 a6 a7 a8 a9 a10 a11 a12 a13 a14 a15 a16 a17 n (nI m)) (fun _ _ => True) 16 0 () (by omega) trivial
    (fun n _ _ => pk_le l (i + 16) (fun _ => H 16 (by omega)) (fun z => absurd z (by omega)) rfl (nI_add i 16))
    (fun n m _ hm _ hw => pk_le l (i + m) (fun _ => H m (by omega)) (fun z1 => pk_le o (s + m) (fun _ => H m (by omega)) (fun z2 => ⟨pk_in (i + m) 16 (by omega) (nI_add i m), pk_in (s + m) 16 (by omega) (nI_add s m), br_c (fun _ => nm_r (nI_1 m) (hw () trivial)) (fun _ => H m (by omega))⟩) rfl (nI_add s m)) rfl (nI_add i m))
theorem sd_mp30 {post : St2 → Prop} {J : Int32 → Int32 → (Nat → Int32) → (Nat → Int32) → (Nat → Int32) → (Nat → Int32) → (Nat → Int32) → (Nat → Int32) → (Nat → Int32) → (Nat → Int32) → (Nat → Int32) → (Nat → Int32) → (Nat → Int32) → (Nat → Int32) → (Nat → Int32) → (Nat → Int32) → (Nat → Int32) → (Nat → Int32) → (Nat → Int32) → Prop} {st : Int32} {a1 a2 a3 a4 a5 a6 a7 a8 a9 a10 a11 a12 a13 a14 a15 a16 a17 : Nat → Int32} {l o i p : Nat} (hl : l ≤ 16) (ho : o ≤ 16) (hi : i < l) (hp : p < 16)
    (H : ∀ i' b16, i' ≤ i + 16 → J (nI i') (nI (p + 1)) a1 a2 a3 a4 a5 a6 a7 a8 a9 a10 a11 a12 a13 a14 a15 b16 a17) : ∃ n, wX_makeProgram_30 post J (nI l) (nI o) (nI i) st (nI p) a1 a2 a3 a4 a5 a6 a7 a8 a9 a10 a11 a12 a13 a14 a15 a16 a17 n 0 0 0 := by
  refine pk_loop (σ := Int32 × Nat) (fun n k s => wX_makeProgram_30 post J (nI l) (nI o) (nI i) st (nI p) a1 a2 a3 a4 a5 a6 a7 a8 a9 a10 a11 a12 a13 a14 a15 a16 a17 n s.1 (nI s.2) (nI k)) (fun _ s => s.2 ≤ 16) o 0 (0, 0) (by omega) (Nat.zero_le 16) ?_ ?_
  · intro n s h
    exact pk_le o o (fun _ => pk_lt s.2 2 (fun _ => ⟨pk_in i 16 (by omega), pk_in p 16 hp, nm_e (nm_r (nI_1 i) (nm_r (nI_1 p) (H (i + 1) _ (by omega))))⟩) (fun _ => ⟨pk_in p 16 hp, nm_e (nm_r (nI_add i s.2) (nm_r (nI_1 p) (H (i + s.2) _ (by omega))))⟩)) (fun z => absurd z (by omega))
  · intro n k s hk h hw
    exact pk_le o k (fun z => absurd z (by omega)) (fun _ => sd_ml rfl rfl rfl rfl (by omega) (by omega) hl ho (fun m hm => pk_le m s.2 (fun _ => nm_r (nI_1 k) (hw s h)) (fun _ => nm_r (nI_1 k) (hw (nI k, m) hm))))
/-- makeProgram ends, and changes program and programLen alone; programLen is at most 16 -/
theorem sd_mp {post : St2 → Prop} {st pl : Int32} {a1 a2 a3 a4 a5 a6 a7 a8 a9 a10 a11 a12 a13 a14 a15 a16 a17 : Nat → Int32} {p0 p1 : Int32} {l o : Nat} (h0 : p0 = nI l) (h1 : p1 = nI o) (hl : l ≤ 16) (ho : o ≤ 16)
    (H : ∀ p b16, p ≤ 16 → post (st, nI p, a1, a2, a3, a4, a5, a6, a7, a8, a9, a10, a11, a12, a13, a14, a15, b16, a17)) : wpX_makeProgram post (st, pl, a1, a2, a3, a4, a5, a6, a7, a8, a9, a10, a11, a12, a13, a14, a15, a16, a17) p0 p1 := by
  subst h0 h1
  refine pk_loop (σ := Nat × (Nat → Int32)) (fun n p s => wX_makeProgram_7 post (nI l) (nI o) st n (nI s.1) (nI p) a1 a2 a3 a4 a5 a6 a7 a8 a9 a10 a11 a12 a13 a14 a15 s.2 a17) (fun p s => s.1 ≤ 16 * (p + 1)) 16 0 (0, a16) (by omega) (Nat.zero_le _) ?_ ?_
  · intro n s h
    exact pk_le l s.1 (fun _ => H 16 s.2 (by omega)) (fun _ => pk_le 16 16 (fun _ => H 16 s.2 (by omega)) (fun z => absurd z (by omega)))
  · intro n p s hp h hw
    exact pk_le l s.1 (fun _ => H p s.2 (by omega)) (fun z => pk_le 16 p (fun g => absurd g (by omega)) (fun _ => sd_mp30 hl ho z hp (fun i' b16 hi' => hw (i', b16) (show i' ≤ 16 * (p + 1 + 1) by omega))))
end
section
theorem sd_st104 {post : St2 → Prop} {st pl : Int32} {a1 a2 a3 a4 a5 a6 a7 a8 a9 a10 a11 a12 a13 a14 a15 a16 a17 : Nat → Int32} {d l : Nat} (hd : d < 96) (hl : l ≤ 16) (H : ∀ b9, post (st, pl, a1, a2, a3, a4, a5, a6, a7, a8, b9, a10, a11, a12, a13, a14, a15, a16, a17)) : ∃ n, wX_storeAgainst_104 post (nI d) (nI l) st pl n 0 a1 a2 a3 a4 a5 a6 a7 a8 a9 a10 a11 a12 a13 a14 a15 a16 a17 :=
  pk_loop (fun n i s => wX_storeAgainst_104 post (nI d) (nI l) st pl n (nI i) a1 a2 a3 a4 a5 a6 a7 a8 s a10 a11 a12 a13 a14 a15 a16 a17) (fun _ _ => True) l 0 a9 (by omega) trivial
    (fun n s _ => pk_le l l (fun _ => H s) (fun z => absurd z (by omega)))
    (fun n i s hi _ hw => pk_le l i (fun z => absurd z (by omega)) (fun _ => ⟨pk_in i 16 (by omega), pk_in (d * 16 + i) 1536 (by omega) (sd_mix d i), nm_e (nm_r (nI_1 i) (hw _ trivial))⟩))
theorem sd_st59 {post : St2 → Prop} {st : Int32} {a1 a2 a3 a4 a5 a6 a7 a8 a9 a10 a11 a12 a13 a14 a15 a16 a17 : Nat → Int32} {d p : Nat} (hd : d < 96) (hp : p ≤ 16) (H : ∀ b9, post (st, nI p, a1, a2, a3, a4, a5, a6, a7, a8, b9, a10, a11, a12, a13, a14, a15, a16, a17)) : ∃ n, wX_storeAgainst_59 post (nI d) st (nI p) n 0 a1 a2 a3 a4 a5 a6 a7 a8 a9 a10 a11 a12 a13 a14 a15 a16 a17 :=
  pk_loop (fun n i s => wX_storeAgainst_59 post (nI d) st (nI p) n (nI i) a1 a2 a3 a4 a5 a6 a7 a8 s a10 a11 a12 a13 a14 a15 a16 a17) (fun _ _ => True) p 0 a9 (by omega) trivial
    (fun n s _ => pk_le p p (fun _ => H s) (fun z => absurd z (by omega)))
    (fun n i s hi _ hw => pk_le p i (fun z => absurd z (by omega)) (fun _ => ⟨pk_in i 16 (by omega), pk_in (d * 16 + i) 1536 (by omega) (sd_mix d i), nm_e (nm_r (nI_1 i) (hw _ trivial))⟩))
/-- storeAgainst ends; bases and cells stay within their bounds -/
theorem sd_store {post : St2 → Prop} {st pl : Int32} {a1 a2 a3 a4 a5 a6 a7 a8 a9 a10 a11 a12 a13 a14 a15 a16 a17 : Nat → Int32} {p0 p1 p2 : Int32} {d l : Nat} (h0 : p0 = nI d) (h2 : p2 = nI l) (hd : d < 96) (hl : l ≤ 16) (hq : p1 < 0 ∨ ∃ q, q < 96 ∧ p1 = nI q)
    (h6 : sd_bd a6 96 16) (h7 : sd_bd a7 96 96) (h8 : sd_bd a8 96 16)
    (H : ∀ pl' b7 b8 b9 b14 b15 b16 b17, sd_bd b7 96 96 → sd_bd b8 96 16 → post (st, pl', a1, a2, a3, a4, a5, a6, b7, b8, b9, a10, a11, a12, a13, b14, b15, b16, b17)) : wpX_storeAgainst post (st, pl, a1, a2, a3, a4, a5, a6, a7, a8, a9, a10, a11, a12, a13, a14, a15, a16, a17) p0 p1 p2 := by
  subst h0 h2
  refine ⟨pk_in d 96 hd, nm_e ?_⟩
  have k7 : sd_bd (upd a7 (nI d).toNatClampNeg 0) 96 96 := sd_bdU (k := 0) h7 rfl (by omega)
  rcases hq with hn | ⟨q, hq, rfl⟩
  · exact br_t hn ⟨pk_in d 96 hd, nm_e (sd_st104 hd hl (fun b9 => H _ _ _ _ _ _ _ _ k7 (sd_bdU h8 rfl hl)))⟩
  · obtain ⟨z, hz, ez⟩ := h6 q hq
    refine br_f (nI_pos (by omega)) (sd_wo rfl hq h6 k7 h8 (fun b14 b15 b17 => ⟨pk_in q 96 hq, sd_mp (o := z) rfl ?_ hl hz (fun p b16 hp => ⟨by decide, br_c (fun _ => ?_) (fun _ => ?_)⟩)⟩))
    · rw [nI_clamp (by omega)]
      exact ez
    · exact ⟨pk_in d 96 hd, nm_e (sd_st104 hd hl (fun b9 => H _ _ _ _ _ _ _ _ k7 (sd_bdU h8 rfl hl)))⟩
    · exact ⟨pk_in d 96 hd, nm_e ⟨pk_in d 96 hd, nm_e (sd_st59 hd hp (fun b9 => H _ _ _ _ _ _ _ _ (sd_bdU k7 (nI_1 q) (by omega)) (sd_bdU h8 rfl hp)))⟩⟩
/-- the chunks in use are 0 .. m-1, each used at most c times -/
def sd_use (a5 : Nat → Int32) (m c : Nat) : Prop := (∀ j, j < m → ∃ k, 0 < k ∧ k ≤ c ∧ a5 j = nI k) ∧ (∀ j, m ≤ j → j < 96 → a5 j = 0)
theorem sd_kc114 {post : Int32 → St2 → Prop} {st pl : Int32} {a1 a2 a3 a4 a5 a6 a7 a8 a9 a10 a11 a12 a13 a14 a15 a16 a17 : Nat → Int32} {x3 : Int32} {l m : Nat} (hl : l ≤ 16) (hm : m < 96) (h6 : sd_bd a6 96 16) (h7 : sd_bd a7 96 96) (h8 : sd_bd a8 96 16)
    (H : ∀ pl' b7 b8 b9 b10 b11 b12 b14 b15 b16 b17, sd_bd b7 96 96 → sd_bd b8 96 16 → post (nI m) (st, pl', a1, a2, a3, a4, upd a5 m 1, upd a6 m (nI l), b7, b8, b9, b10, b11, b12, a13, b14, b15, b16, b17)) :
    wX_keepChunk_114 post (nI l) x3 (nI m) st pl a1 a2 a3 a4 a5 a6 a7 a8 a9 a10 a11 a12 a13 a14 a15 a16 a17 := by
  have hc : (nI m).toNatClampNeg = m := nI_clamp (by omega)
  have fin : ∀ (P : St2 → Prop) (r1 r2 r3 : Int32), (r3 < 0 ∨ ∃ q, q < 96 ∧ r3 = nI q) → (∀ u : St2, post (nI m) u → P u) →
      wpX_storeAgainst P (st, pl, a1, a2, a3, a4, upd a5 m 1, upd a6 m (nI l), a7, a8, a9, upd a10 m x3, upd a11 m r1, upd a12 m r2, a13, a14, a15, a16, a17) (nI m) r3 (nI l) := by
    intro P r1 r2 r3 h hP
    exact sd_store rfl rfl hm hl h (sd_bdU h6 rfl hl) h7 h8 (fun pl' b7 b8 b9 b14 b15 b16 b17 k7 k8 => hP _ (H _ _ _ _ _ _ _ _ _ _ _ k7 k8))
  refine sd_lw rfl hl (fun r1 => sd_lw rfl hl (fun r2 => sd_fs h7 ?_ (fun q hq => ?_)))
  · refine ⟨pk_in m 96 hm, nm_r (e' := upd a5 m 1) (by rw [hc]) ⟨pk_in m 96 hm, nm_r (e' := upd a6 m (nI l)) (by rw [hc]) ⟨pk_in m 96 hm, nm_r (e' := upd a10 m x3) (by rw [hc]) ⟨pk_in m 96 hm, nm_r (e' := upd a11 m r1) (by rw [hc]) ⟨pk_in m 96 hm, nm_r (e' := upd a12 m r2) (by rw [hc]) ?_⟩⟩⟩⟩⟩
    exact fin _ r1 r2 (-1) (Or.inl (by decide)) (fun u hu => hu)
  · refine ⟨pk_in m 96 hm, nm_r (e' := upd a5 m 1) (by rw [hc]) ⟨pk_in m 96 hm, nm_r (e' := upd a6 m (nI l)) (by rw [hc]) ⟨pk_in m 96 hm, nm_r (e' := upd a10 m x3) (by rw [hc]) ⟨pk_in m 96 hm, nm_r (e' := upd a11 m r1) (by rw [hc]) ⟨pk_in m 96 hm, nm_r (e' := upd a12 m r2) (by rw [hc]) ?_⟩⟩⟩⟩⟩
    exact fin _ r1 r2 (nI q) (Or.inr ⟨q, hq, rfl⟩) (fun u hu => hu)
theorem sd_kc91 {post : Int32 → St2 → Prop} {st pl : Int32} {a1 a2 a3 a4 a5 a6 a7 a8 a9 a10 a11 a12 a13 a14 a15 a16 a17 : Nat → Int32} {x3 : Int32} {l m c : Nat} (hl : l ≤ 16) (hm : m < 95) (hc : c ≤ 1000) (h5 : sd_use a5 m c) (h6 : sd_bd a6 96 16) (h7 : sd_bd a7 96 96) (h8 : sd_bd a8 96 16)
    (H : ∀ pl' b7 b8 b9 b10 b11 b12 b14 b15 b16 b17, sd_bd b7 96 96 → sd_bd b8 96 16 → post (nI m) (st, pl', a1, a2, a3, a4, upd a5 m 1, upd a6 m (nI l), b7, b8, b9, b10, b11, b12, a13, b14, b15, b16, b17)) :
    ∃ n, wX_keepChunk_91 post (nI l) x3 st pl a1 a2 a3 a4 a5 a6 a7 a8 a9 a10 a11 a12 a13 a14 a15 a16 a17 n 0 := by
  refine pk_loop (σ := Unit) (fun n i _ => wX_keepChunk_91 post (nI l) x3 st pl a1 a2 a3 a4 a5 a6 a7 a8 a9 a10 a11 a12 a13 a14 a15 a16 a17 n (nI i)) (fun _ _ => True) m 0 () (by omega) trivial ?_ ?_
  · intro n _ _
    have e5 : a5 (nI m).toNatClampNeg = nI 0 := by
      rw [nI_clamp (by omega)]
      exact h5.2 m (Nat.le_refl m) (by omega)
    exact pk_le 95 m (fun z => absurd z (by omega)) (fun _ => ⟨pk_in m 96 (by omega), pk_le 0 0 (fun _ => sd_kc114 hl (by omega) h6 h7 h8 H) (fun z => absurd z (by omega)) e5⟩)
  · intro n i _ hi _ hw
    obtain ⟨k, hk, hk2, ek⟩ := h5.1 i hi
    have e5 : a5 (nI i).toNatClampNeg = nI k := by
      rw [nI_clamp (by omega)]
      exact ek
    exact pk_le 95 i (fun z => absurd z (by omega)) (fun _ => ⟨pk_in i 96 (by omega), pk_le k 0 (fun z => absurd z (by omega)) (fun _ => nm_r (nI_1 i) (hw () trivial)) e5⟩)
theorem sd_kc33 {post : Int32 → St2 → Prop} {st pl : Int32} {a1 a2 a3 a4 a5 a6 a7 a8 a9 a10 a11 a12 a13 a14 a15 a16 a17 : Nat → Int32} {l m c : Nat} (hl : l ≤ 16) (hm : m < 95) (hc : c ≤ 1000) (h5 : sd_use a5 m c) (h6 : sd_bd a6 96 16) (h7 : sd_bd a7 96 96) (h8 : sd_bd a8 96 16)
    (H0 : ∀ pl' b7 b8 b9 b10 b11 b12 b14 b15 b16 b17, sd_bd b7 96 96 → sd_bd b8 96 16 → post (nI m) (st, pl', a1, a2, a3, a4, upd a5 m 1, upd a6 m (nI l), b7, b8, b9, b10, b11, b12, a13, b14, b15, b16, b17))
    (H1 : ∀ q b14 b15 b17, q < m → a6 q = nI l → post (nI q) (st, pl, a1, a2, a3, a4, upd a5 q (a5 q + 1), a6, a7, a8, a9, a10, a11, a12, a13, b14, b15, a16, b17)) :
    ∃ n, wX_keepChunk_33 post (nI l) st pl a1 a2 a3 a4 a5 a6 a7 a8 a9 a10 a11 a12 a13 a14 a15 a16 a17 n 17 0 := by
  refine pk_loop (fun n i s => wX_keepChunk_33 post (nI l) st pl a1 a2 a3 a4 a5 a6 a7 a8 a9 a10 a11 a12 a13 a14 a15 a16 a17 n s (nI i)) (fun _ _ => True) l 0 17 (by omega) trivial ?_ ?_
  · intro n s _
    refine pk_le l l (fun _ => sd_fe rfl hl h6 h7 h8 (fun b14 b15 b17 => ?_) (fun q b14 b15 b17 hq z5 z6 => ?_)) (fun z => absurd z (by omega))
    · exact br_t (by decide) (sd_kc91 hl hm hc h5 h6 h7 h8 (fun pl' b7 b8 b9 b10 b11 b12 c14 c15 b16 c17 k7 k8 => H0 _ _ _ _ _ _ _ _ _ _ _ k7 k8))
    · have hqm : q < m := by
        rcases Nat.lt_or_ge q m with g | g
        · exact g
        · exact absurd (show a5 q ≤ 0 by rw [h5.2 q g hq]; decide) z5
      have hcl : (nI q).toNatClampNeg = q := nI_clamp (by omega)
      exact br_f (nI_pos (by omega)) ⟨pk_in q 96 hq, pk_in q 96 hq, nm_r (e' := upd a5 q (a5 q + 1)) (by rw [hcl]) (H1 q b14 b15 b17 hqm z6)⟩
  · intro n i s hi _ hw
    exact pk_le l i (fun z => absurd z (by omega)) (fun _ => ⟨pk_in i 16 (by omega), nm_e (nm_r (nI_1 i) (hw _ trivial))⟩)
/-- keepChunk: the id is new (m), or one of the chunks in use with this length -/
theorem sd_kc {post : Int32 → St2 → Prop} {st pl : Int32} {a1 a2 a3 a4 a5 a6 a7 a8 a9 a10 a11 a12 a13 a14 a15 a16 a17 : Nat → Int32} {p0 p1 : Int32} {f l m c : Nat} (hp0 : p0 = nI f) (hp1 : p1 = nI l) (hf : f + l ≤ 96) (hl : l ≤ 16) (hm : m < 95) (hc : c ≤ 1000) (h5 : sd_use a5 m c) (h6 : sd_bd a6 96 16) (h7 : sd_bd a7 96 96) (h8 : sd_bd a8 96 16)
    (H0 : ∀ pl' b7 b8 b9 b10 b11 b12 b13 b14 b15 b16 b17, sd_bd b7 96 96 → sd_bd b8 96 16 → post (nI m) (st, pl', a1, a2, a3, a4, upd a5 m 1, upd a6 m (nI l), b7, b8, b9, b10, b11, b12, b13, b14, b15, b16, b17))
    (H1 : ∀ q b13 b14 b15 b17, q < m → a6 q = nI l → post (nI q) (st, pl, a1, a2, a3, a4, upd a5 q (a5 q + 1), a6, a7, a8, a9, a10, a11, a12, b13, b14, b15, a16, b17)) :
    wpX_keepChunk post (st, pl, a1, a2, a3, a4, a5, a6, a7, a8, a9, a10, a11, a12, a13, a14, a15, a16, a17) p0 p1 := by
  subst hp0 hp1
  refine pk_loop (fun n i s => wX_keepChunk_2 post (nI f) (nI l) st pl n (nI i) a1 a2 a3 a4 a5 a6 a7 a8 a9 a10 a11 a12 s a14 a15 a16 a17) (fun _ _ => True) l 0 a13 (by omega) trivial ?_ ?_
  · intro n s _
    exact pk_le l l (fun _ => sd_kc33 hl hm hc h5 h6 h7 h8 (fun pl' b7 b8 b9 b10 b11 b12 b14 b15 b16 b17 k7 k8 => H0 _ _ _ _ _ _ _ _ _ _ _ _ k7 k8) (fun q b14 b15 b17 hq z6 => H1 q s b14 b15 b17 hq z6)) (fun z => absurd z (by omega))
  · intro n i s hi _ hw
    exact pk_le l i (fun z => absurd z (by omega)) (fun _ => ⟨pk_in (f + i) 96 (by omega) (nI_add f i), pk_in i 16 (by omega), nm_e (nm_r (nI_1 i) (hw _ trivial))⟩)
end
section
def sd_sum (f : Nat → Int32) : Nat → Int32
  | 0 => 0
  | n + 1 => sd_sum f n + f n
theorem sd_sumC {f g : Nat → Int32} : ∀ n, (∀ j, j < n → f j = g j) → sd_sum f n = sd_sum g n
  | 0, _ => rfl
  | n + 1, h => by
    show sd_sum f n + f n = sd_sum g n + g n
    rw [sd_sumC n (fun j hj => h j (by omega)), h n (by omega)]
/-- the sizes of the parts of backup k -/
def sd_F (a4 a6 : Nat → Int32) (k : Nat) : Nat → Int32 := fun j => a6 (a4 (k * 16 + j)).toNatClampNeg
/-- a saved backup k of c parts and N bytes -/
def sd_ok (k c N : Nat) (a3 a4 a6 a7 a8 : Nat → Int32) : Prop :=
  a3 k = nI c ∧ c ≤ 16 ∧ sd_bd a6 96 16 ∧ sd_bd a7 96 96 ∧ sd_bd a8 96 16 ∧ (∀ j, j < c → ∃ q, q < 96 ∧ a4 (k * 16 + j) = nI q) ∧ sd_sum (sd_F a4 a6 k) c = nI N
/-- save's loop at byte i, the chunk under way from f on, c parts kept, m chunks in use -/
def sd_J (k N i f c m : Nat) (a3 a4 a5 a6 a7 a8 : Nat → Int32) : Prop :=
  ((i < N ∧ 6 * c ≤ f ∧ f ≤ i ∧ i < f + 16) ∨ (i = N ∧ f = N ∧ c ≤ 16)) ∧ m ≤ c ∧ a3 k = nI c ∧ sd_use a5 m c ∧ sd_bd a6 96 16 ∧ sd_bd a7 96 96 ∧ sd_bd a8 96 16 ∧ (∀ j, j < c → ∃ q, q < m ∧ a4 (k * 16 + j) = nI q) ∧ sd_sum (sd_F a4 a6 k) c = nI f
theorem sd_useK {a5 : Nat → Int32} {m c q : Nat} (h : sd_use a5 m c) (hq : q < m) : sd_use (upd a5 q (a5 q + 1)) m (c + 1) := by
  refine ⟨fun j hj => ?_, fun j h1 h2 => ?_⟩
  · by_cases e : j = q
    · obtain ⟨t, t0, t1, et⟩ := h.1 q hq
      rw [e, pk_us, et, nI_1]
      exact ⟨t + 1, by omega, by omega, rfl⟩
    · rw [pk_un e]
      obtain ⟨t, t0, t1, et⟩ := h.1 j hj
      exact ⟨t, t0, by omega, et⟩
  · rw [pk_un (by omega)]
    exact h.2 j h1 h2
theorem sd_useN {a5 : Nat → Int32} {m c : Nat} (h : sd_use a5 m c) : sd_use (upd a5 m 1) (m + 1) (c + 1) := by
  refine ⟨fun j hj => ?_, fun j h1 h2 => ?_⟩
  · by_cases e : j = m
    · rw [e, pk_us]
      exact ⟨1, by omega, by omega, rfl⟩
    · rw [pk_un e]
      obtain ⟨t, t0, t1, et⟩ := h.1 j (by omega)
      exact ⟨t, t0, by omega, et⟩
  · rw [pk_un (by omega)]
    exact h.2 j (by omega) h2
theorem sd_step {k N i f c m m' q l : Nat} {a3 a4 a5 a6 a7 a8 b5 b6 b7 b8 : Nat → Int32} (h : sd_J k N i f c m a3 a4 a5 a6 a7 a8) (hN : N ≤ 96) (hi : i < N) (he : i + 1 = N ∨ 6 ≤ i + 1 - f)
    (hl : l = i + 1 - f) (hm : m ≤ m') (hm' : m' ≤ c + 1) (hq : q < m') (k5 : sd_use b5 m' (c + 1)) (k6 : sd_bd b6 96 16) (k7 : sd_bd b7 96 96) (k8 : sd_bd b8 96 16) (k6q : b6 q = nI l) (k6o : ∀ j, j < m → b6 j = a6 j) :
    sd_J k N (i + 1) (i + 1) (c + 1) m' (upd a3 k (nI (c + 1))) (upd a4 (k * 16 + c) (nI q)) b5 b6 b7 b8 := by
  obtain ⟨hcase, hmc, h3, h5, h6, h7, h8, h4, hs⟩ := h
  have hA : i < N ∧ 6 * c ≤ f ∧ f ≤ i ∧ i < f + 16 := by omega
  obtain ⟨_, hf1, hf2, hf3⟩ := hA
  refine ⟨by omega, hm', pk_us, k5, k6, k7, k8, fun j hj => ?_, ?_⟩
  · by_cases e : j = c
    · rw [e, pk_us]
      exact ⟨q, hq, rfl⟩
    · rw [pk_un (by omega)]
      obtain ⟨t, ht, et⟩ := h4 j (by omega)
      exact ⟨t, by omega, et⟩
  · have e1 : sd_sum (sd_F (upd a4 (k * 16 + c) (nI q)) b6 k) c = nI f := by
      rw [← hs]
      refine sd_sumC c (fun j hj => ?_)
      obtain ⟨t, ht, et⟩ := h4 j hj
      show b6 (upd a4 (k * 16 + c) (nI q) (k * 16 + j)).toNatClampNeg = a6 (a4 (k * 16 + j)).toNatClampNeg
      rw [pk_un (by omega), et, nI_clamp (by omega)]
      exact k6o t ht
    have e2 : sd_F (upd a4 (k * 16 + c) (nI q)) b6 k c = nI l := by
      show b6 (upd a4 (k * 16 + c) (nI q) (k * 16 + c)).toNatClampNeg = nI l
      rw [pk_us, nI_clamp (by omega)]
      exact k6q
    show sd_sum (sd_F (upd a4 (k * 16 + c) (nI q)) b6 k) c + sd_F (upd a4 (k * 16 + c) (nI q)) b6 k c = nI (i + 1)
    rw [e1, e2, nI_add, show f + l = i + 1 by omega]
theorem sd_bnd {post : Int32 → Prop} {st pl : Int32} {a1 a2 a3 a4 a5 a6 a7 a8 a9 a10 a11 a12 a13 a14 a15 a16 a17 : Nat → Int32} {f i : Nat} {p0 p1 : Int32} (h0 : p0 = nI f) (h1 : p1 = nI i) (hf : f ≤ i) (hi : i < 96) (H0 : i + 1 - f < 16 → post 0) (H1 : 6 ≤ i + 1 - f → post 1) : wpX_boundary post (st, pl, a1, a2, a3, a4, a5, a6, a7, a8, a9, a10, a11, a12, a13, a14, a15, a16, a17) p0 p1 := by
  subst h0 h1
  refine nm_r (e' := nI (i + 1 - f)) (by rw [nI_1, pk_sub (by omega)]) (pk_le 6 (i + 1 - f) (fun z => pk_lt (i + 1 - f) 16 (fun z2 => ⟨pk_in i 96 hi, pk_in (i - 1) 96 (by omega) (sd_pr (by omega)), pk_in (i - 2) 96 (by omega) (pk_sub (a := i) (b := 2) (by omega)), nm_e (br_c (fun _ => H1 z) (fun _ => H0 z2))⟩) (fun _ => H1 z)) (fun z => H0 (by omega)))
theorem sd_sv67 {post : Int32 → St2 → Prop} {J : Int32 → Int32 → Int32 → Int32 → (Nat → Int32) → (Nat → Int32) → (Nat → Int32) → (Nat → Int32) → (Nat → Int32) → (Nat → Int32) → (Nat → Int32) → (Nat → Int32) → (Nat → Int32) → (Nat → Int32) → (Nat → Int32) → (Nat → Int32) → (Nat → Int32) → (Nat → Int32) → (Nat → Int32) → (Nat → Int32) → (Nat → Int32) → Prop} {pl : Int32} {a1 a2 a3 a4 a5 a6 a7 a8 a9 a10 a11 a12 a13 a14 a15 a16 a17 : Nat → Int32} {k N i f c m : Nat} (hk : k ≤ 5) (hN : N ≤ 96) (hi : i < N) (he : i + 1 = N ∨ 6 ≤ i + 1 - f) (h : sd_J k N i f c m a3 a4 a5 a6 a7 a8)
    (H : ∀ m' pl' b3 b4 b5 b6 b7 b8 b9 b10 b11 b12 b13 b14 b15 b16 b17, sd_J k N (i + 1) (i + 1) (c + 1) m' b3 b4 b5 b6 b7 b8 → J (nI (i + 1)) (nI (i + 1)) (nI N) pl' a1 a2 b3 b4 b5 b6 b7 b8 b9 b10 b11 b12 b13 b14 b15 b16 b17) :
    wX_save_67 post J (nI k) (nI f) (nI i) (nI N) pl a1 a2 a3 a4 a5 a6 a7 a8 a9 a10 a11 a12 a13 a14 a15 a16 a17 := by
  have h' := h
  obtain ⟨hcase, hmc, h3, h5, h6, h7, h8, h4, hs⟩ := h'
  have hA : i < N ∧ 6 * c ≤ f ∧ f ≤ i ∧ i < f + 16 := by omega
  obtain ⟨_, hf1, hf2, hf3⟩ := hA
  have hcl : (nI k).toNatClampNeg = k := nI_clamp (by omega)
  have e3 : a3 (nI k).toNatClampNeg = nI c := by
    rw [hcl]
    exact h3
  have ei : nI k * 16 + a3 (nI k).toNatClampNeg = nI (k * 16 + c) := by
    rw [e3]
    exact sd_mix k c
  have ej : (nI k * 16 + a3 (nI k).toNatClampNeg).toNatClampNeg = k * 16 + c := by
    rw [ei]
    exact nI_clamp (by omega)
  have el : nI i + 1 - nI f = nI (i + 1 - f) := by
    rw [nI_1, pk_sub (by omega)]
  refine sd_kc (m := m) rfl el (by omega) (by omega) (by omega) (c := c) (by omega) h5 h6 h7 h8 (fun pl' b7 b8 b9 b10 b11 b12 b13 b14 b15 b16 b17 k7 k8 => ?_) (fun q b13 b14 b15 b17 hq z6 => ?_)
  · refine ⟨pk_in k 6 (by omega), pk_in (k * 16 + c) 96 (by omega) ei, nm_r (e' := upd a4 (k * 16 + c) (nI m)) (by rw [ej]) ⟨pk_in k 6 (by omega), pk_in k 6 (by omega), nm_r (e' := upd a3 k (nI (c + 1))) (by rw [e3, nI_1, hcl]) (nm_r (nI_1 i) (nm_r (nI_1 i) (H (m + 1) _ _ _ _ _ _ _ _ _ _ _ _ _ _ _ _ ?_)))⟩⟩
    exact sd_step h hN hi he rfl (by omega) (by omega) (by omega) (sd_useN h5) (sd_bdU h6 rfl (by omega)) k7 k8 pk_us (fun j hj => pk_un (by omega))
  · refine ⟨pk_in k 6 (by omega), pk_in (k * 16 + c) 96 (by omega) ei, nm_r (e' := upd a4 (k * 16 + c) (nI q)) (by rw [ej]) ⟨pk_in k 6 (by omega), pk_in k 6 (by omega), nm_r (e' := upd a3 k (nI (c + 1))) (by rw [e3, nI_1, hcl]) (nm_r (nI_1 i) (nm_r (nI_1 i) (H m _ _ _ _ _ _ _ _ _ _ _ _ _ _ _ _ ?_)))⟩⟩
    exact sd_step h hN hi he rfl (by omega) (by omega) hq (sd_useK h5 hq) h6 h7 h8 z6 (fun j hj => rfl)
theorem sd_sv40 {post : Int32 → St2 → Prop} {a1 a2 : Nat → Int32} {k N : Nat} (hk : k ≤ 5) (hN : N ≤ 96)
    (H : ∀ c pl a3 a4 a5 a6 a7 a8 a9 a10 a11 a12 a13 a14 a15 a16 a17, sd_ok k c N a3 a4 a6 a7 a8 → post (nI N) (nI N, pl, a1, a2, a3, a4, a5, a6, a7, a8, a9, a10, a11, a12, a13, a14, a15, a16, a17)) :
    ∀ (n i f c m : Nat) (pl : Int32) (a3 a4 a5 a6 a7 a8 a9 a10 a11 a12 a13 a14 a15 a16 a17 : Nat → Int32), N - i < n → sd_J k N i f c m a3 a4 a5 a6 a7 a8 → wX_save_40 post (nI k) n (nI f) (nI i) (nI N) pl a1 a2 a3 a4 a5 a6 a7 a8 a9 a10 a11 a12 a13 a14 a15 a16 a17 := by
  intro n
  induction n with
  | zero => intro i f c m pl a3 a4 a5 a6 a7 a8 a9 a10 a11 a12 a13 a14 a15 a16 a17 hn; exact absurd hn (by omega)
  | succ n ih =>
    intro i f c m pl a3 a4 a5 a6 a7 a8 a9 a10 a11 a12 a13 a14 a15 a16 a17 hn h
    have h' := h
    obtain ⟨hcase, hmc, h3, h5, h6, h7, h8, h4, hs⟩ := h'
    have hi96 : i ≤ 96 := by omega
    refine pk_le N i (fun z => ?_) (fun z => ?_)
    · have hB : i = N ∧ f = N ∧ c ≤ 16 := by omega
      rw [hB.2.1] at hs
      refine H c _ _ _ _ _ _ _ _ _ _ _ _ _ _ _ _ ⟨h3, hB.2.2, h6, h7, h8, fun j hj => ?_, hs⟩
      obtain ⟨t, ht, et⟩ := h4 j hj
      exact ⟨t, by omega, et⟩
    · have hA : i < N ∧ 6 * c ≤ f ∧ f ≤ i ∧ i < f + 16 := by omega
      have go : (i + 1 = N ∨ 6 ≤ i + 1 - f) → wX_save_67 post (wX_save_40 post (nI k) n) (nI k) (nI f) (nI i) (nI N) pl a1 a2 a3 a4 a5 a6 a7 a8 a9 a10 a11 a12 a13 a14 a15 a16 a17 := fun he =>
        sd_sv67 hk hN z he h (fun m' pl' b3 b4 b5 b6 b7 b8 b9 b10 b11 b12 b13 b14 b15 b16 b17 hJ => ih (i + 1) (i + 1) (c + 1) m' pl' b3 b4 b5 b6 b7 b8 b9 b10 b11 b12 b13 b14 b15 b16 b17 (by omega) hJ)
      refine pk_eq i (N - 1) (fun g => go (by omega)) (fun g => ?_) rfl (sd_pr (by omega))
      refine sd_bnd rfl rfl hA.2.2.1 (by omega) (fun g2 => br_t rfl (nm_r (nI_1 i) (ih (i + 1) f c m pl a3 a4 a5 a6 a7 a8 a9 a10 a11 a12 a13 a14 a15 a16 a17 (by omega) ⟨by omega, hmc, h3, h5, h6, h7, h8, h4, hs⟩))) (fun g2 => br_f (by decide) (go (Or.inr g2)))
theorem sd_bs0 {post : Int32 → Prop} {k : Nat} (hk : k ≤ 5) (H : post 0) : wpX_badSlot post () (nI k) :=
  br_f (nI_pos (by omega)) (pk_le k 5 (fun _ => H) (fun z => absurd z (by omega)))
theorem sd_bs1 {post : Int32 → Prop} {x : Int32} (hx : x < 0 ∨ 5 < x) (H : post 1) : wpX_badSlot post () x := by
  rcases hx with h | h
  · exact br_t h H
  · refine br_c (fun _ => H) (fun _ => br_f ?_ H)
    intro g
    have q1 := Int32.lt_iff_toInt_lt.mp h
    have q2 := Int32.le_iff_toInt_le.mp g
    omega
/-- save into a free slot k: the backup stands -/
theorem sd_save {post : Int32 → St2 → Prop} {pl : Int32} {a1 a2 a3 a4 a5 a6 a7 a8 a9 a10 a11 a12 a13 a14 a15 a16 a17 : Nat → Int32} {k N : Nat} (hk : k ≤ 5) (hN : N ≤ 96) (h2 : a2 k = 0) (h5 : ∀ j, j < 96 → a5 j = 0) (h6 : sd_bd a6 96 16) (h7 : sd_bd a7 96 96) (h8 : sd_bd a8 96 16)
    (H : ∀ c pl b3 b4 b5 b6 b7 b8 b9 b10 b11 b12 b13 b14 b15 b16 b17, sd_ok k c N b3 b4 b6 b7 b8 → post (nI N) (nI N, pl, a1, upd a2 k 1, b3, b4, b5, b6, b7, b8, b9, b10, b11, b12, b13, b14, b15, b16, b17)) :
    wpX_save post (nI N, pl, a1, a2, a3, a4, a5, a6, a7, a8, a9, a10, a11, a12, a13, a14, a15, a16, a17) (nI k) := by
  have hcl : (nI k).toNatClampNeg = k := nI_clamp (by omega)
  unfold wpX_save
  refine sd_bs0 hk ?_
  refine br_t rfl ⟨pk_in k 6 (by omega), br_t (by rw [hcl]; exact h2) ⟨pk_in k 6 (by omega), nm_r (e' := upd a2 k 1) (by rw [hcl]) ⟨pk_in k 6 (by omega), nm_r (e' := upd a3 k 0) (by rw [hcl]) ⟨N + 1, ?_⟩⟩⟩⟩
  refine sd_sv40 hk hN (fun c pl b3 b4 b5 b6 b7 b8 b9 b10 b11 b12 b13 b14 b15 b16 b17 hok => H c pl b3 b4 b5 b6 b7 b8 b9 b10 b11 b12 b13 b14 b15 b16 b17 hok) (N + 1) 0 0 0 0 _ _ _ _ _ _ _ _ _ _ _ _ _ _ _ _ (by omega) ⟨by omega, by omega, pk_us, ⟨fun j hj => absurd hj (by omega), fun j _ hj => h5 j hj⟩, h6, h7, h8, fun j hj => absurd hj (by omega), rfl⟩
end
section
theorem sd_len {post : Int32 → Prop} {st pl : Int32} {a1 a2 a3 a4 a5 a6 a7 a8 a9 a10 a11 a12 a13 a14 a15 a16 a17 : Nat → Int32} {k c N : Nat} (hk : k ≤ 5) (h2 : ¬ a2 k = 0) (h : sd_ok k c N a3 a4 a6 a7 a8) (H : post (nI N)) : wpX_length post (st, pl, a1, a2, a3, a4, a5, a6, a7, a8, a9, a10, a11, a12, a13, a14, a15, a16, a17) (nI k) := by
  obtain ⟨h3, hc, h6, h7, h8, h4, hs⟩ := h
  have hcl : (nI k).toNatClampNeg = k := nI_clamp (by omega)
  have e3 : a3 (nI k).toNatClampNeg = nI c := by
    rw [hcl]
    exact h3
  unfold wpX_length
  refine sd_bs0 hk ?_
  refine br_t rfl ⟨pk_in k 6 (by omega), br_f (by rw [hcl]; exact h2) ?_⟩
  refine pk_loop (fun n i s => wX_length_26 post (nI k) st pl a1 a2 a3 a4 a5 a6 a7 a8 a9 a10 a11 a12 a13 a14 a15 a16 a17 n s (nI i)) (fun i s => s = sd_sum (sd_F a4 a6 k) i) c 0 0 (by omega) rfl ?_ ?_
  · intro n s e
    have e' : s = nI N := Eq.trans e hs
    refine ⟨pk_in k 6 (by omega), pk_le c c (fun _ => ?_) (fun z => absurd z (by omega)) e3⟩
    rw [e']
    exact H
  · intro n i s hi e hw
    obtain ⟨q, hq, eq⟩ := h4 i hi
    have e4 : a4 (nI k * 16 + nI i).toNatClampNeg = a4 (k * 16 + i) := by
      rw [sd_mix, nI_clamp (by omega)]
    refine ⟨pk_in k 6 (by omega), pk_le c i (fun z => absurd z (by omega)) (fun _ => ⟨pk_in (k * 16 + i) 96 (by omega) (sd_mix k i), pk_in q 96 hq (e4.trans eq), nm_r (e' := s + a6 (a4 (k * 16 + i)).toNatClampNeg) (by rw [e4]) (nm_r (nI_1 i) (hw _ ?_))⟩) e3⟩
    have e' : s = sd_sum (sd_F a4 a6 k) i := e
    rw [e']
    rfl
theorem sd_len0 {post : Int32 → Prop} {st pl : Int32} {a1 a2 a3 a4 a5 a6 a7 a8 a9 a10 a11 a12 a13 a14 a15 a16 a17 : Nat → Int32} {k : Nat} (hk : k ≤ 5) (h2 : a2 k = 0) (H : post (-4)) : wpX_length post (st, pl, a1, a2, a3, a4, a5, a6, a7, a8, a9, a10, a11, a12, a13, a14, a15, a16, a17) (nI k) := by
  have hcl : (nI k).toNatClampNeg = k := nI_clamp (by omega)
  unfold wpX_length
  refine sd_bs0 hk ?_
  exact br_t rfl ⟨pk_in k 6 (by omega), br_t (by rw [hcl]; exact h2) H⟩
theorem sd_lenB {post : Int32 → Prop} {st pl : Int32} {a1 a2 a3 a4 a5 a6 a7 a8 a9 a10 a11 a12 a13 a14 a15 a16 a17 : Nat → Int32} {x : Int32} (hx : x < 0 ∨ 5 < x) (H : post (-2)) : wpX_length post (st, pl, a1, a2, a3, a4, a5, a6, a7, a8, a9, a10, a11, a12, a13, a14, a15, a16, a17) x := by
  unfold wpX_length
  refine sd_bs1 hx ?_
  exact br_f (by decide) H
theorem sd_mr {post : St2 → Prop} {st pl : Int32} {a1 a2 a3 a4 a5 a6 a7 a8 a9 a10 a11 a12 a13 a14 a15 a16 a17 : Nat → Int32} {d : Nat} {p0 : Int32} (hp : p0 = nI d) (hd : d < 96) (h6 : sd_bd a6 96 16) (h7 : sd_bd a7 96 96) (h8 : sd_bd a8 96 16)
    (H : ∀ b7 b8 b9 b14 b15 b17, sd_bd b7 96 96 → sd_bd b8 96 16 → post (st, pl, a1, a2, a3, a4, a5, a6, b7, b8, b9, a10, a11, a12, a13, b14, b15, a16, b17)) : wpX_makeRaw post (st, pl, a1, a2, a3, a4, a5, a6, a7, a8, a9, a10, a11, a12, a13, a14, a15, a16, a17) p0 := by
  subst hp
  obtain ⟨z, hz, ez⟩ := h6 d hd
  have e6 : a6 (nI d).toNatClampNeg = nI z := by
    rw [nI_clamp (by omega)]
    exact ez
  refine sd_wo rfl hd h6 h7 h8 (fun b14 b15 b17 => ⟨pk_in d 96 hd, nm_e ⟨pk_in d 96 hd, pk_in d 96 hd, nm_e ?_⟩⟩)
  exact pk_loop (fun n i s => wX_makeRaw_26 post (nI d) st pl n (nI i) a1 a2 a3 a4 a5 a6 (upd a7 (nI d).toNatClampNeg 0) (upd a8 (nI d).toNatClampNeg (a6 (nI d).toNatClampNeg)) s a10 a11 a12 a13 b14 b15 a16 b17) (fun _ _ => True) z 0 a9 (by omega) trivial
    (fun n s _ => ⟨pk_in d 96 hd, pk_le z z (fun _ => H _ _ _ _ _ _ (sd_bdU (k := 0) h7 rfl (by omega)) (sd_bdU h8 e6 hz)) (fun g => absurd g (by omega)) e6⟩)
    (fun n i s hi _ hw => ⟨pk_in d 96 hd, pk_le z i (fun g => absurd g (by omega)) (fun _ => ⟨pk_in i 16 (by omega), pk_in (d * 16 + i) 1536 (by omega) (sd_mix d i), nm_e (nm_r (nI_1 i) (hw _ trivial))⟩) e6⟩)
/-- release ends; bases and cells stay within their bounds -/
theorem sd_rel {post : St2 → Prop} {st pl : Int32} {a1 a2 a3 a4 a5 a6 a7 a8 a9 a10 a11 a12 a13 a14 a15 a16 a17 : Nat → Int32} {d : Nat} {p0 : Int32} (hp : p0 = nI d) (hd : d < 96) (h6 : sd_bd a6 96 16) (h7 : sd_bd a7 96 96) (h8 : sd_bd a8 96 16)
    (H : ∀ b5 b7 b8 b9 b14 b15 b17, sd_bd b7 96 96 → sd_bd b8 96 16 → post (st, pl, a1, a2, a3, a4, b5, a6, b7, b8, b9, a10, a11, a12, a13, b14, b15, a16, b17)) : wpX_release post (st, pl, a1, a2, a3, a4, a5, a6, a7, a8, a9, a10, a11, a12, a13, a14, a15, a16, a17) p0 := by
  subst hp
  refine ⟨pk_in d 96 hd, pk_in d 96 hd, nm_e ⟨pk_in d 96 hd, br_c (fun _ => ?_) (fun _ => H _ _ _ _ _ _ _ h7 h8)⟩⟩
  refine pk_loop (σ := (Nat → Int32) × (Nat → Int32) × (Nat → Int32) × (Nat → Int32) × (Nat → Int32) × (Nat → Int32)) (fun n i s => wX_release_22 post (nI d) n (nI i) st pl a1 a2 a3 a4 (upd a5 (nI d).toNatClampNeg (a5 (nI d).toNatClampNeg - 1)) a6 s.1 s.2.1 s.2.2.1 a10 a11 a12 a13 s.2.2.2.1 s.2.2.2.2.1 a16 s.2.2.2.2.2) (fun _ s => sd_bd s.1 96 96 ∧ sd_bd s.2.1 96 16) 96 0 (a7, a8, a9, a14, a15, a17) (by omega) ⟨h7, h8⟩ ?_ ?_
  · intro n s h
    exact pk_le 96 96 (fun _ => ⟨pk_in d 96 hd, nm_e (H _ _ _ _ _ _ _ (sd_bdU (k := 0) h.1 rfl (by omega)) h.2)⟩) (fun z => absurd z (by omega))
  · intro n i s hi h hw
    exact pk_le 96 i (fun z => absurd z (by omega)) (fun _ => ⟨pk_in i 96 hi, br_c (fun _ => nm_r (nI_1 i) (hw s h)) (fun _ => ⟨pk_in i 96 hi, br_c (fun _ => sd_mr rfl hi h6 h.1 h.2 (fun b7 b8 b9 b14 b15 b17 k7 k8 => nm_r (nI_1 i) (hw (b7, b8, b9, b14, b15, b17) ⟨k7, k8⟩))) (fun _ => nm_r (nI_1 i) (hw s h))⟩)⟩)
/-- drop of a saved backup k answers its length and frees the slot -/
theorem sd_drop {post : Int32 → St2 → Prop} {st pl : Int32} {a1 a2 a3 a4 a5 a6 a7 a8 a9 a10 a11 a12 a13 a14 a15 a16 a17 : Nat → Int32} {k c N : Nat} (hk : k ≤ 5) (hN : N ≤ 96) (h2 : ¬ a2 k = 0) (h : sd_ok k c N a3 a4 a6 a7 a8)
    (H : ∀ b3 b5 b7 b8 b9 b14 b15 b17, post (nI N) (st, pl, a1, upd a2 k 0, b3, a4, b5, a6, b7, b8, b9, a10, a11, a12, a13, b14, b15, a16, b17)) : wpX_drop post (st, pl, a1, a2, a3, a4, a5, a6, a7, a8, a9, a10, a11, a12, a13, a14, a15, a16, a17) (nI k) := by
  unfold wpX_drop
  refine sd_len hk h2 h ?_
  refine br_t (nI_pos' (by omega)) ?_
  obtain ⟨h3, hc, h6, h7, h8, h4, hs⟩ := h
  have hcl : (nI k).toNatClampNeg = k := nI_clamp (by omega)
  have e3 : a3 (nI k).toNatClampNeg = nI c := by
    rw [hcl]
    exact h3
  refine pk_loop (σ := (Nat → Int32) × (Nat → Int32) × (Nat → Int32) × (Nat → Int32) × (Nat → Int32) × (Nat → Int32) × (Nat → Int32)) (fun n i s => wX_drop_14 post (nI k) (nI N) n (nI i) st pl a1 a2 a3 a4 s.1 a6 s.2.1 s.2.2.1 s.2.2.2.1 a10 a11 a12 a13 s.2.2.2.2.1 s.2.2.2.2.2.1 a16 s.2.2.2.2.2.2) (fun _ s => sd_bd s.2.1 96 96 ∧ sd_bd s.2.2.1 96 16) c 0 (a5, a7, a8, a9, a14, a15, a17) (by omega) ⟨h7, h8⟩ ?_ ?_
  · intro n s h
    exact ⟨pk_in k 6 (by omega), pk_le c c (fun _ => ⟨pk_in k 6 (by omega), nm_r (e' := upd a2 k 0) (by rw [hcl]) ⟨pk_in k 6 (by omega), nm_e (H _ _ _ _ _ _ _ _)⟩⟩) (fun z => absurd z (by omega)) e3⟩
  · intro n i s hi h hw
    obtain ⟨q, hq, eq⟩ := h4 i hi
    have e4 : a4 (nI k * 16 + nI i).toNatClampNeg = nI q := by
      rw [sd_mix, nI_clamp (by omega)]
      exact eq
    exact ⟨pk_in k 6 (by omega), pk_le c i (fun z => absurd z (by omega)) (fun _ => ⟨pk_in (k * 16 + i) 96 (by omega) (sd_mix k i), sd_rel e4 hq h6 h.1 h.2 (fun b5 b7 b8 b9 b14 b15 b17 k7 k8 => nm_r (nI_1 i) (hw (b5, b7, b8, b9, b14, b15, b17) ⟨k7, k8⟩))⟩) e3⟩
end
section
theorem sd_fr {post : Int32 → St2 → Prop} {pl : Int32} {a1 a2 a3 a4 a5 a6 a7 a8 a9 a10 a11 a12 a13 a14 a15 a16 a17 : Nat → Int32} {p0 p1 p2 : Int32} {N : Nat} (hp : p2 = nI N) (hN : N ≤ 96)
    (H : ∀ b1, (2 ≤ N → b1 1 = (p0 + p1) &&& 255) → post (nI N) (nI N, pl, b1, a2, a3, a4, a5, a6, a7, a8, a9, a10, a11, a12, a13, a14, a15, a16, a17)) : wpX_feedRun post (0, pl, a1, a2, a3, a4, a5, a6, a7, a8, a9, a10, a11, a12, a13, a14, a15, a16, a17) p0 p1 p2 := by
  subst hp
  refine br_t (nI_pos' (by omega)) (pk_le N 96 (fun _ => ?_) (fun z => absurd z (by omega)))
  refine pk_loop (σ := Int32 × (Nat → Int32)) (fun n i s => wX_feedRun_31 post p1 (nI N) n s.1 (nI i) (nI i) pl s.2 a2 a3 a4 a5 a6 a7 a8 a9 a10 a11 a12 a13 a14 a15 a16 a17) (fun i s => (i = 0 → s.1 = p0) ∧ (i = 1 → s.1 = p0 + p1) ∧ (2 ≤ i → s.2 1 = (p0 + p1) &&& 255)) N 0 (p0, a1) (by omega) ⟨fun _ => rfl, fun z => absurd z (by omega), fun z => absurd z (by omega)⟩ ?_ ?_
  · intro n s h
    exact pk_le N N (fun _ => H s.2 h.2.2) (fun z => absurd z (by omega))
  · intro n i s hi h hw
    refine pk_le N i (fun z => absurd z (by omega)) (fun _ => pk_lt i 96 (fun _ => ⟨pk_in i 96 (by omega), nm_e (nm_r (nI_1 i) (nm_e (nm_r (nI_1 i) (hw (s.1 + p1, _) ⟨fun z => absurd z (by omega), fun z => ?_, fun z => ?_⟩))))⟩) (fun z => absurd z (by omega)))
    · show s.1 + p1 = p0 + p1
      rw [h.1 (by omega)]
    · show upd s.2 (nI i).toNatClampNeg (s.1 &&& 255) 1 = (p0 + p1) &&& 255
      rw [nI_clamp (by omega)]
      by_cases e : i = 1
      · rw [e, pk_us, h.2.1 e]
      · rw [pk_un (by omega)]
        exact h.2.2 (by omega)
theorem sd_frN {post : Int32 → St2 → Prop} {pl : Int32} {a1 a2 a3 a4 a5 a6 a7 a8 a9 a10 a11 a12 a13 a14 a15 a16 a17 : Nat → Int32} {p0 p1 p2 : Int32} (hp : p2 < 0) (H : post 0 (0, pl, a1, a2, a3, a4, a5, a6, a7, a8, a9, a10, a11, a12, a13, a14, a15, a16, a17)) : wpX_feedRun post (0, pl, a1, a2, a3, a4, a5, a6, a7, a8, a9, a10, a11, a12, a13, a14, a15, a16, a17) p0 p1 p2 := by
  have hn : ¬ (0 : Int32) ≤ p2 := by
    intro z
    have q1 := Int32.lt_iff_toInt_lt.mp hp
    have q2 := Int32.le_iff_toInt_le.mp z
    omega
  exact br_f hn (br_t (by decide) ⟨1, br_t (by decide) H⟩)
theorem sd_frB {post : Int32 → St2 → Prop} {pl : Int32} {a1 a2 a3 a4 a5 a6 a7 a8 a9 a10 a11 a12 a13 a14 a15 a16 a17 : Nat → Int32} {p0 p1 p2 : Int32} (h0 : ¬ p2 < 0) (hp : ¬ p2 ≤ 96) (H : post (-1) (0, pl, a1, a2, a3, a4, a5, a6, a7, a8, a9, a10, a11, a12, a13, a14, a15, a16, a17)) : wpX_feedRun post (0, pl, a1, a2, a3, a4, a5, a6, a7, a8, a9, a10, a11, a12, a13, a14, a15, a16, a17) p0 p1 p2 := by
  have e : (96 : Int32) - 0 = 96 := by decide
  refine br_t ?_ (br_f (by rw [e]; exact hp) H)
  have q1 : ¬ p2.toInt < (0 : Int32).toInt := fun g => h0 (Int32.lt_iff_toInt_lt.mpr g)
  exact Int32.le_iff_toInt_le.mpr (by omega)
theorem sd_sb {post : Int32 → Prop} {pl : Int32} {a1 a2 a3 a4 a5 a6 a7 a8 a9 a10 a11 a12 a13 a14 a15 a16 a17 : Nat → Int32} {N : Nat} (hN : N ≤ 96) (H0 : N ≤ 1 → post (-5)) (H1 : 1 < N → post (a1 1)) : wpX_stageByte post (nI N, pl, a1, a2, a3, a4, a5, a6, a7, a8, a9, a10, a11, a12, a13, a14, a15, a16, a17) 1 :=
  br_f (by decide) (pk_lt 1 N (fun z => ⟨pk_in 1 96 (by omega), H1 z⟩) (fun z => H0 z))
theorem sd_svB {post : Int32 → St2 → Prop} {st pl : Int32} {a1 a2 a3 a4 a5 a6 a7 a8 a9 a10 a11 a12 a13 a14 a15 a16 a17 : Nat → Int32} {x : Int32} (hx : x < 0 ∨ 5 < x) (H : post (-2) (st, pl, a1, a2, a3, a4, a5, a6, a7, a8, a9, a10, a11, a12, a13, a14, a15, a16, a17)) : wpX_save post (st, pl, a1, a2, a3, a4, a5, a6, a7, a8, a9, a10, a11, a12, a13, a14, a15, a16, a17) x := by
  unfold wpX_save
  refine sd_bs1 hx ?_
  exact br_f (by decide) H
theorem sd_svU {post : Int32 → St2 → Prop} {st pl : Int32} {a1 a2 a3 a4 a5 a6 a7 a8 a9 a10 a11 a12 a13 a14 a15 a16 a17 : Nat → Int32} {k : Nat} (hk : k ≤ 5) (h2 : ¬ a2 k = 0) (H : post (-3) (st, pl, a1, a2, a3, a4, a5, a6, a7, a8, a9, a10, a11, a12, a13, a14, a15, a16, a17)) : wpX_save post (st, pl, a1, a2, a3, a4, a5, a6, a7, a8, a9, a10, a11, a12, a13, a14, a15, a16, a17) (nI k) := by
  have hcl : (nI k).toNatClampNeg = k := nI_clamp (by omega)
  unfold wpX_save
  refine sd_bs0 hk ?_
  exact br_t rfl ⟨pk_in k 6 (by omega), br_f (by rw [hcl]; exact h2) H⟩
theorem sd_drB {post : Int32 → St2 → Prop} {st pl : Int32} {a1 a2 a3 a4 a5 a6 a7 a8 a9 a10 a11 a12 a13 a14 a15 a16 a17 : Nat → Int32} {x : Int32} (hx : x < 0 ∨ 5 < x) (H : post (-2) (st, pl, a1, a2, a3, a4, a5, a6, a7, a8, a9, a10, a11, a12, a13, a14, a15, a16, a17)) : wpX_drop post (st, pl, a1, a2, a3, a4, a5, a6, a7, a8, a9, a10, a11, a12, a13, a14, a15, a16, a17) x := by
  unfold wpX_drop
  refine sd_lenB hx ?_
  exact br_f (by decide) H
/-- a bad slot: every call says so -/
theorem sd_94B {post : Int32 → St0 → Prop} {mc ms kc ks : Nat} {st pl : Int32} {a1 a2 a3 a4 a5 a6 a7 a8 a9 a10 a11 a12 a13 a14 a15 a16 a17 : Nat → Int32} {x0 x5 : Int32} (hx : x0 < 0 ∨ 5 < x0) (H : post 1 ()) : wL_lawOf_94 post mc ms x0 x5 0 kc ks st pl a1 a2 a3 a4 a5 a6 a7 a8 a9 a10 a11 a12 a13 a14 a15 a16 a17 := by
  unfold wL_lawOf_94
  refine sd_svB hx ?_
  refine br_t rfl (br_t rfl (sd_svB hx ?_))
  refine br_t rfl (br_t rfl (sd_drB hx ?_))
  refine br_t rfl (br_t rfl (sd_lenB hx ?_))
  exact br_t rfl (br_t rfl H)
/-- a good slot -/
theorem sd_94G {post : Int32 → St0 → Prop} {mc ms kc ks : Nat} {pl : Int32} {a1 a2 a3 a4 a5 a6 a7 a8 a9 a10 a11 a12 a13 a14 a15 a16 a17 : Nat → Int32} {k N : Nat} (hk : k ≤ 5) (hN : N ≤ 96) (h2 : a2 k = 0) (h5 : ∀ j, j < 96 → a5 j = 0) (h6 : sd_bd a6 96 16) (h7 : sd_bd a7 96 96) (h8 : sd_bd a8 96 16) (H : post 1 ()) :
    wL_lawOf_94 post mc ms (nI k) (nI N) 1 kc ks (nI N) pl a1 a2 a3 a4 a5 a6 a7 a8 a9 a10 a11 a12 a13 a14 a15 a16 a17 := by
  unfold wL_lawOf_94
  refine sd_save hk hN h2 h5 h6 h7 h8 (fun c pl b3 b4 b5 b6 b7 b8 b9 b10 b11 b12 b13 b14 b15 b16 b17 hok => ?_)
  refine br_f (by decide) (br_t rfl ?_)
  have hu : ¬ upd a2 k 1 k = 0 := by
    rw [pk_us]
    decide
  refine sd_svU hk hu ?_
  refine br_f (by decide) (br_t rfl (sd_drop hk hN hu hok (fun c3 c5 c7 c8 c9 c14 c15 c17 => ?_)))
  refine br_f (by decide) (br_t rfl (sd_len0 hk pk_us ?_))
  exact br_f (by decide) (br_t rfl H)
theorem sd_46 {post : Int32 → St0 → Prop} {mc ms kc ks : Nat} {pl : Int32} {a1 a2 a3 a4 a5 a6 a7 a8 a9 a10 a11 a12 a13 a14 a15 a16 a17 : Nat → Int32} {x0 x1 x2 z : Int32} {N : Nat} (hN : N ≤ 96) (h1 : 2 ≤ N → a1 1 = (x1 + x2) &&& 255) (h2 : ∀ k, k ≤ 5 → a2 k = 0) (h5 : ∀ j, j < 96 → a5 j = 0) (h6 : sd_bd a6 96 16) (h7 : sd_bd a7 96 96) (h8 : sd_bd a8 96 16) (H : post 1 ()) :
    wL_lawOf_46 post mc ms x0 x1 x2 (nI N) z z kc ks (nI N) pl a1 a2 a3 a4 a5 a6 a7 a8 a9 a10 a11 a12 a13 a14 a15 a16 a17 := by
  have go : ∀ y, wL_lawOf_75 post mc ms x0 (nI N) y y kc ks (nI N) pl a1 a2 a3 a4 a5 a6 a7 a8 a9 a10 a11 a12 a13 a14 a15 a16 a17 := by
    intro y
    refine br_t rfl (br_c (fun g => sd_94B (Or.inl g) H) (fun g => br_c (fun g2 => sd_94B (Or.inr g2) H) (fun g2 => ?_)))
    obtain ⟨j, hj, e⟩ := nI_of g
    subst e
    have hj5 : j ≤ 5 := by
      rcases Nat.lt_or_ge 5 j with t | t
      · exact absurd (nI_lt t hj) g2
      · exact t
    exact sd_94G hj5 hN (h2 j hj5) h5 h6 h7 h8 H
  refine br_t rfl (sd_sb hN (fun z1 => pk_le N 1 (fun _ => go _) (fun t => absurd t (by omega))) (fun z1 => pk_le N 1 (fun t => absurd t (by omega)) (fun _ => ?_)))
  rw [h1 z1]
  exact go _
theorem sd_cell {post : Int32 → Prop} {L : Nat} {xs : Nat → Int32} {x : Int32} {k : Nat} (hx : x = nI k) (hL : L ≤ 4) (hk : k ≤ 3) (H : ∀ r, post r) : wpL_cellAt post L xs () x := by
  subst hx
  exact pk_le L k (fun _ => H _) (fun z => ⟨pk_in k L z, H _⟩)
theorem sd_0 : sd_bd (fun _ => 0) 96 16 := fun j _ => ⟨0, by omega, rfl⟩
theorem sd_0' : sd_bd (fun _ => 0) 96 96 := fun j _ => ⟨0, by omega, rfl⟩
theorem sd_law {post : Int32 → St0 → Prop} (p0 p1 p2 p3 : Int32) (H : post 1 ()) : wpL_lawOf post 18 2503 () p0 p1 p2 p3 := by
  refine ⟨by decide, by decide, 17, 2484, by decide, by decide, ?_⟩
  refine ⟨by decide, by decide, by decide, by decide, by decide, by decide, by decide, by decide, by decide, by decide, by decide, by decide, by decide, by decide, by decide, by decide, by decide, by decide, by decide, by decide, by decide, by decide, by decide, by decide, by decide, by decide, by decide, by decide, by decide, by decide, by decide, by decide, by decide, by decide, ?_⟩
  refine br_c (fun g => ?_) (fun g => br_c (fun g2 => ?_) (fun g2 => ?_))
  · have g2 : p3 ≤ 96 := by
      have q1 := Int32.lt_iff_toInt_lt.mp g
      have e0 : (0 : Int32).toInt = 0 := by decide
      have e1 : (96 : Int32).toInt = 96 := by decide
      exact Int32.le_iff_toInt_le.mpr (by omega)
    exact sd_frN g (br_t g2 (sd_46 (N := 0) (by omega) (fun z => absurd z (by omega)) (fun _ _ => rfl) (fun _ _ => rfl) sd_0 sd_0' sd_0 H))
  · obtain ⟨N, hN, e⟩ := nI_of g
    subst e
    have hN2 : N ≤ 96 := (nI_leI (b := 96) hN (by omega)).mp g2
    exact sd_fr rfl hN2 (fun b1 hb => br_t g2 (sd_46 hN2 hb (fun _ _ => rfl) (fun _ _ => rfl) sd_0 sd_0' sd_0 H))
  · exact sd_frB g g2 (br_f g2 (sd_46 (N := 0) (by omega) (fun z => absurd z (by omega)) (fun _ _ => rfl) (fun _ _ => rfl) sd_0 sd_0' sd_0 H))
theorem i_vc (xs : Nat → Int32) (L : Nat) (hL : L ≤ 4) : wpL_law (fun r => r = 1) L xs :=
  sd_cell (k := 0) rfl hL (by omega) (fun r1 => sd_cell (k := 1) rfl hL (by omega) (fun r2 => sd_cell (k := 2) rfl hL (by omega) (fun r3 => sd_cell (k := 3) rfl hL (by omega) (fun r4 => ⟨18, 2503, by decide, by decide, sd_law r1 r2 r3 r4 rfl⟩))))
end
