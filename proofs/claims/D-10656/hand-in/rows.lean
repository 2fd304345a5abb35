section
/-- a row of w free cells -/
def ap_M (w : Nat) : Int32 := ((1 : Int32) <<< (nI w &&& 31)) - 1
theorem ap_wide : ∀ w, w < 17 → ∀ h, h < 17 → ((nI (w * 32 + h)) >>> ((5 : Int32) &&& 31)) &&& 31 = nI w := by decide +kernel
theorem ap_high : ∀ w, w < 17 → ∀ h, h < 17 → nI (w * 32 + h) &&& 31 = nI h := by decide +kernel
theorem ap_bottom : ∀ w, w < 17 → ∀ h, h < 17 → ((nI (w * 32 + h)) >>> ((10 : Int32) &&& 31)) &&& 31 = 0 := by decide +kernel
theorem ap_left : ∀ w, w < 17 → ∀ h, h < 17 → (nI (w * 32 + h)) >>> ((15 : Int32) &&& 31) = 0 := by decide +kernel
theorem ap_pack0 : ∀ w, w < 17 → ∀ h, h < 17 → (((((0 : Int32) <<< ((15 : Int32) &&& 31)) ||| ((0 : Int32) <<< ((10 : Int32) &&& 31))) ||| ((nI w) <<< ((5 : Int32) &&& 31))) ||| (nI h)) = nI (w * 32 + h) := by decide +kernel
theorem ap_bit : ∀ w, w < 17 → ∀ x, x < w → ¬ ((((1 : Int32) <<< (nI w &&& 31)) - 1) >>> (nI x &&& 31)) &&& 1 = 0 := by decide +kernel
theorem ap_b8 : ∀ n, n < 17 → (nI n).toInt8.toInt32 = nI n := by decide +kernel
theorem ap_xx (x y : Int32) : (x ^^^ y) ^^^ y = x := by
  rw [Int32.xor_assoc, Int32.xor_self, Int32.xor_zero]
theorem ap_fill {s : Nat → Int32} {i k : Nat} {c x : Int32} (hk : k = i) (hx : x = c) (h : ∀ j, j < i → s j = c) : ∀ j, j < i + 1 → upd s k x j = c := by
  intro j hj
  rw [hk, hx]
  by_cases e : j = i
  · rw [e, pk_us]
  · rw [pk_un e]
    exact h j (by omega)
/-- what the component and the law make of an asked measure -/
def ap_cl (p : Int32) (w : Nat) : Prop := (¬ (4 : Int32) ≤ p ∧ w = 4) ∨ ((4 : Int32) ≤ p ∧ ¬ p ≤ 16 ∧ w = 16) ∨ ((4 : Int32) ≤ p ∧ p ≤ 16 ∧ p = nI w)
theorem ap_clE (p : Int32) : ∃ w, 4 ≤ w ∧ w ≤ 16 ∧ ap_cl p w := by
  by_cases h1 : (4 : Int32) ≤ p
  · by_cases h2 : p ≤ 16
    · have h1' := Int32.le_iff_toInt_le.mp h1
      have h2' := Int32.le_iff_toInt_le.mp h2
      have e4 : (4 : Int32).toInt = 4 := rfl
      have e16 : (16 : Int32).toInt = 16 := rfl
      have h0 : ¬ p < 0 := by
        intro z
        have z' := Int32.lt_iff_toInt_lt.mp z
        have e0 : (0 : Int32).toInt = 0 := rfl
        omega
      obtain ⟨j, hj, e⟩ := nI_of h0
      have t := nI_toInt hj
      rw [← e] at t
      exact ⟨j, by omega, by omega, Or.inr (Or.inr ⟨h1, h2, e⟩)⟩
    · exact ⟨16, by omega, by omega, Or.inr (Or.inl ⟨h1, h2, rfl⟩)⟩
  · exact ⟨4, by omega, by omega, Or.inl ⟨h1, rfl⟩⟩
theorem ap_clamp {p : Int32} {w : Nat} (A : Int32 → Prop) (c : ap_cl p w) (h : A (nI w)) : ((4 : Int32) ≤ p → ((p ≤ 16 → A p) ∧ (¬ p ≤ 16 → A 16))) ∧ (¬ (4 : Int32) ≤ p → A 4) := by
  rcases c with ⟨c1, rfl⟩ | ⟨c1, c2, rfl⟩ | ⟨c1, c2, rfl⟩
  · exact br_f c1 h
  · exact br_t c1 (br_f c2 h)
  · exact br_t c1 (br_t c2 h)
/-- a size that may be placed -/
def ap_sz (x y : Int32) : Prop := ¬ x < 1 ∧ ¬ 16 < x ∧ ¬ y < 1 ∧ ¬ 16 < y
theorem ap_sz1 {x : Int32} (h1 : ¬ x < 1) (h2 : ¬ 16 < x) : ∃ a, 1 ≤ a ∧ a ≤ 16 ∧ x = nI a := by
  have h1' : ¬ x.toInt < (1 : Int32).toInt := fun z => h1 (Int32.lt_iff_toInt_lt.mpr z)
  have h2' : ¬ (16 : Int32).toInt < x.toInt := fun z => h2 (Int32.lt_iff_toInt_lt.mpr z)
  have e1 : (1 : Int32).toInt = 1 := rfl
  have e16 : (16 : Int32).toInt = 16 := rfl
  have h0 : ¬ x < 0 := by
    intro z
    have z' := Int32.lt_iff_toInt_lt.mp z
    have e0 : (0 : Int32).toInt = 0 := rfl
    omega
  obtain ⟨j, hj, e⟩ := nI_of h0
  have t := nI_toInt hj
  rw [← e] at t
  exact ⟨j, by omega, by omega, e⟩
end
section
section
variable {f0 f1 f2 f3 f4 : Int32} {a1 a2 a3 a4 a5 a6 a7 a8 a9 : Nat → Int32}
theorem ap_pk {post : Int32 → Prop} {w h : Nat} (hw : w ≤ 16) (hh : h ≤ 16) (H : post (nI (w * 32 + h))) : wpX_pack post (f0, f1, f2, f3, f4, a1, a2, a3, a4, a5, a6, a7, a8, a9) 0 0 (nI w) (nI h) :=
  ek_v (P := post) (ap_pack0 w (by omega) h (by omega)) H
theorem ap_wideOf {post : Int32 → Prop} {p : Int32} {w h : Nat} (e : p = nI (w * 32 + h)) (hw : w ≤ 16) (hh : h ≤ 16) (H : post (nI w)) : wpX_wideOf post (f0, f1, f2, f3, f4, a1, a2, a3, a4, a5, a6, a7, a8, a9) p := by
  subst e
  exact ek_v (P := post) (ap_wide w (by omega) h (by omega)) H
theorem ap_highOf {post : Int32 → Prop} {p : Int32} {w h : Nat} (e : p = nI (w * 32 + h)) (hw : w ≤ 16) (hh : h ≤ 16) (H : post (nI h)) : wpX_highOf post (f0, f1, f2, f3, f4, a1, a2, a3, a4, a5, a6, a7, a8, a9) p := by
  subst e
  exact ek_v (P := post) (ap_high w (by omega) h (by omega)) H
theorem ap_bottomOf {post : Int32 → Prop} {p : Int32} {w h : Nat} (e : p = nI (w * 32 + h)) (hw : w ≤ 16) (hh : h ≤ 16) (H : post 0) : wpX_bottomOf post (f0, f1, f2, f3, f4, a1, a2, a3, a4, a5, a6, a7, a8, a9) p := by
  subst e
  exact ek_v (P := post) (ap_bottom w (by omega) h (by omega)) H
theorem ap_leftOf {post : Int32 → Prop} {p : Int32} {w h : Nat} (e : p = nI (w * 32 + h)) (hw : w ≤ 16) (hh : h ≤ 16) (H : post 0) : wpX_leftOf post (f0, f1, f2, f3, f4, a1, a2, a3, a4, a5, a6, a7, a8, a9) p := by
  subst e
  exact ek_v (P := post) (ap_left w (by omega) h (by omega)) H
theorem ap_isSize {post : Int32 → Prop} {p0 p1 : Int32} (H0 : ¬ ap_sz p0 p1 → post 0) (H1 : ap_sz p0 p1 → post 1) : wpX_isSize post (f0, f1, f2, f3, f4, a1, a2, a3, a4, a5, a6, a7, a8, a9) p0 p1 :=
  br_c (fun z => H0 (fun t => t.1 z)) (fun z1 => br_c (fun z => H0 (fun t => t.2.1 z)) (fun z2 => br_c (fun z => H0 (fun t => t.2.2.1 z)) (fun z3 => br_c (fun z => H0 (fun t => t.2.2.2 z)) (fun z4 => H1 ⟨z1, z2, z3, z4⟩))))
/-- the only hole is the corner's: a size finds place 0 or none -/
theorem ap_lowest {post : Int32 → Prop} {w h a b : Nat} (hw : w ≤ 16) (hh : h ≤ 16) (ha : a ≤ 16) (hb : b ≤ 16) (h6 : a6 0 = nI (w * 32 + h)) (H0 : a ≤ w → b ≤ h → post 0) (H1 : ¬ (a ≤ w ∧ b ≤ h) → post (-3)) :
    wpX_lowest post (f0, f1, f2, 1, f4, a1, a2, a3, a4, a5, a6, a7, a8, a9) (nI a) (nI b) := by
  have hend : ∀ (n : Nat) (x3 : Int32), post x3 → wX_lowest_6 post (nI a) (nI b) f0 f1 f2 1 f4 a1 a2 a3 a4 a5 a6 a7 a8 a9 (n + 1) x3 (nI 1) := fun n x3 hp => pk_le 1 1 (fun _ => hp) (fun z => absurd z (by omega))
  refine ⟨0 + 1 + 1, pk_le 1 0 (fun z => absurd z (by omega)) (fun _ => ⟨pk_in 0 256 (by omega), nm_r (e' := nI (w * 32 + h)) (by rw [sb_cl0]; exact h6) ?_⟩)⟩
  refine ap_wideOf rfl hw hh ?_
  refine pk_lt w a (fun z => nm_r (nI_1 0) (hend 0 (-3) (H1 (fun t => absurd t.1 (by omega))))) (fun z => ?_)
  refine ap_highOf rfl hw hh ?_
  refine pk_le b h (fun y => ?_) (fun y => nm_r (nI_1 0) (hend 0 (-3) (H1 (fun t => absurd t.2 (by omega)))))
  refine ap_bottomOf rfl hw hh ?_
  refine ap_leftOf rfl hw hh ?_
  exact nm_r (e' := 0) (by decide) (br_t (by decide) (nm_r (nI_1 0) (hend 0 0 (H0 z y))))
theorem ap_clear33 {post : Int32 → St2 → Prop} {x1 : Int32} {w h : Nat} (hw : w ≤ 16) (hh : h ≤ 16) (H : ∀ b5 b6 : Nat → Int32, (∀ j, j < h → b5 j = ap_M w) → b6 0 = nI (w * 32 + h) → post x1 (nI w, nI h, f2, 1, f4, a1, a2, a3, a4, b5, b6, a7, a8, a9)) :
    ∃ n, wX_clear_33 post x1 (nI w) (nI h) f2 f3 f4 n 0 a1 a2 a3 a4 a5 a6 a7 a8 a9 :=
  pk_loop (fun n i s => wX_clear_33 post x1 (nI w) (nI h) f2 f3 f4 n (nI i) a1 a2 a3 a4 s a6 a7 a8 a9) (fun i s => ∀ j, j < i → s j = ap_M w) h 0 a5 (by omega) (fun j hj => absurd hj (by omega))
    (fun n s hs => pk_le h h (fun _ => ap_pk hw hh (nm_e (H s _ hs pk_us))) (fun z => absurd z (by omega)))
    (fun n i s hi hs hn => pk_le h i (fun z => absurd z (by omega)) (fun _ => ⟨pk_in i 16 (by omega), nm_e (nm_r (nI_1 i) (hn _ (ap_fill (nI_clamp (by omega)) rfl hs)))⟩))
theorem ap_clear {post : Int32 → St2 → Prop} {w h : Nat} (hw : w ≤ 16) (hh : h ≤ 16) (H : ∀ b3 b5 b6 : Nat → Int32, (∀ j, j < 20 → b3 j = 0) → (∀ j, j < h → b5 j = ap_M w) → b6 0 = nI (w * 32 + h) → post f2 (nI w, nI h, 0, 1, f4, a1, a2, b3, a4, b5, b6, a7, a8, a9)) :
    wpX_clear post (nI w, nI h, f2, f3, f4, a1, a2, a3, a4, a5, a6, a7, a8, a9) :=
  pk_loop (fun n i s => wX_clear_7 post f2 (nI w) (nI h) f2 f3 f4 n (nI i) a1 a2 s a4 a5 a6 a7 a8 a9) (fun i s => ∀ j, j < i → s j = 0) 20 0 a3 (by omega) (fun j hj => absurd hj (by omega))
    (fun n s hs => pk_le 20 20 (fun _ => ap_clear33 hw hh (fun b5 b6 h5 h6 => H s b5 b6 hs h5 h6)) (fun z => absurd z (by omega)))
    (fun n i s hi hs hn => pk_le 20 i (fun z => absurd z (by omega)) (fun _ => ⟨pk_in i 20 (by omega), nm_e (nm_r (nI_1 i) (hn _ (ap_fill (nI_clamp (by omega)) rfl hs)))⟩))
theorem ap_init {post : St2 → Prop} {p0 p1 : Int32} {w h : Nat} (c0 : ap_cl p0 w) (c1 : ap_cl p1 h) (hw : w ≤ 16) (hh : h ≤ 16)
    (H : ∀ b3 b5 b6 : Nat → Int32, (∀ j, j < 20 → b3 j = 0) → (∀ j, j < h → b5 j = ap_M w) → b6 0 = nI (w * 32 + h) → post (nI w, nI h, 0, 1, 0, (fun _ => 0), (fun _ => 0), b3, (fun _ => 0), b5, b6, (fun _ => 0), (fun _ => 0), (fun _ => 0))) :
    wpX_init post 9 1410 (0, 0, 0, 0, 0) p0 p1 := by
  unfold wpX_init
  refine ⟨by omega, by omega, by omega, by omega, by omega, by omega, by omega, by omega, by omega, by omega, by omega, by omega, by omega, by omega, by omega, by omega, by omega, by omega, ?_⟩
  refine ap_clamp (fun z => wX_init_100 post 9 1410 p1 z 9 1410 0 0 0 0 0 (fun _ => 0) (fun _ => 0) (fun _ => 0) (fun _ => 0) (fun _ => 0) (fun _ => 0) (fun _ => 0) (fun _ => 0) (fun _ => 0)) c0 ?_
  show wX_init_100 post 9 1410 p1 (nI w) 9 1410 0 0 0 0 0 (fun _ => 0) (fun _ => 0) (fun _ => 0) (fun _ => 0) (fun _ => 0) (fun _ => 0) (fun _ => 0) (fun _ => 0) (fun _ => 0)
  unfold wX_init_100
  refine ap_clamp (fun z => wX_init_125 post 9 1410 z 9 1410 (nI w) 0 0 0 0 (fun _ => 0) (fun _ => 0) (fun _ => 0) (fun _ => 0) (fun _ => 0) (fun _ => 0) (fun _ => 0) (fun _ => 0) (fun _ => 0)) c1 ?_
  show wX_init_125 post 9 1410 (nI h) 9 1410 (nI w) 0 0 0 0 (fun _ => 0) (fun _ => 0) (fun _ => 0) (fun _ => 0) (fun _ => 0) (fun _ => 0) (fun _ => 0) (fun _ => 0) (fun _ => 0)
  unfold wX_init_125
  exact ap_clear hw hh (fun b3 b5 b6 h3 h5 h6 => H b3 b5 b6 h3 h5 h6)
theorem ap_bestA {post : Int32 → Prop} {p0 p1 : Int32} (hs : ¬ ap_sz p0 p1) (H : post (-1)) : wpX_bestPlace post (f0, f1, f2, f3, f4, a1, a2, a3, a4, a5, a6, a7, a8, a9) p0 p1 := by
  unfold wpX_bestPlace
  exact ap_isSize (fun _ => br_t rfl H) (fun z => absurd z hs)
theorem ap_bestB {post : Int32 → Prop} {w h a b : Nat} (hw : w ≤ 16) (hh : h ≤ 16) (ha : a ≤ 16) (hb : b ≤ 16) (hs : ap_sz (nI a) (nI b)) (h6 : a6 0 = nI (w * 32 + h)) (H0 : a ≤ w → b ≤ h → post 0) (H1 : ¬ (a ≤ w ∧ b ≤ h) → post (-3)) :
    wpX_bestPlace post (f0, f1, f2, 1, f4, a1, a2, a3, a4, a5, a6, a7, a8, a9) (nI a) (nI b) := by
  unfold wpX_bestPlace
  exact ap_isSize (fun z => absurd hs z) (fun _ => br_f (by decide) (ap_lowest hw hh ha hb h6 H0 H1))
/-- the rectangle in the corner, c wide and d high: its cells turn -/
theorem ap_flip {post : St2 → Prop} {c d : Nat} (hd : d ≤ 16) (h1 : a1 0 = 0) (h2 : a2 0 = 0) (h3 : a3 0 = nI c) (h4 : a4 0 = nI d)
    (H : ∀ b5 : Nat → Int32, (∀ j, j < d → b5 j = a5 j ^^^ ap_M c) → (∀ j, d ≤ j → b5 j = a5 j) → post (f0, f1, f2, f3, f4, a1, a2, a3, a4, b5, a6, a7, a8, a9)) :
    wpX_flip post (f0, f1, f2, f3, f4, a1, a2, a3, a4, a5, a6, a7, a8, a9) 0 := by
  refine ⟨pk_in 0 20 (by omega), pk_in 0 20 (by omega), nm_r (e' := ap_M c) (by rw [sb_cl0, h3, h1]; exact sb_shl0 _) ⟨pk_in 0 20 (by omega), nm_r (e' := 0) (by rw [sb_cl0]; exact h2) ?_⟩⟩
  have hb : a2 (0 : Int32).toNatClampNeg + a4 (0 : Int32).toNatClampNeg = nI d := by
    rw [sb_cl0, h2, h4, Int32.zero_add]
  exact pk_loop (fun n i s => wX_flip_25 post 0 (ap_M c) f0 f1 f2 f3 f4 n (nI i) a1 a2 a3 a4 s a6 a7 a8 a9) (fun i s => (∀ j, j < i → s j = a5 j ^^^ ap_M c) ∧ (∀ j, i ≤ j → s j = a5 j)) d 0 a5 (by omega) ⟨fun j hj => absurd hj (by omega), fun j _ => rfl⟩
    (fun n s hs => ⟨pk_in 0 20 (by omega), pk_in 0 20 (by omega), pk_le d d (fun _ => H s hs.1 hs.2) (fun z => absurd z (by omega)) hb⟩)
    (fun n i s hi hs hn => ⟨pk_in 0 20 (by omega), pk_in 0 20 (by omega), pk_le d i (fun z => absurd z (by omega)) (fun _ => ⟨pk_in i 16 (by omega), pk_in i 16 (by omega), nm_e (nm_r (nI_1 i) (hn _ (by
      rw [nI_clamp (show i < 2 ^ 31 by omega)]
      refine ⟨fun j hj => ?_, fun j hj => ?_⟩
      · by_cases e : j = i
        · rw [e, pk_us, hs.2 i (Nat.le_refl i)]
        · rw [pk_un e]
          exact hs.1 j (by omega)
      · rw [pk_un (by omega)]
        exact hs.2 j (by omega))))⟩) hb⟩)
end
end
section
section
variable {f0 f1 f2 f3 f4 : Int32} {a1 a2 a3 a4 a5 a6 a7 a8 a9 : Nat → Int32}
theorem ap_paG {post : Int32 → Prop} {p0 p1 p2 p3 : Int32} (H : ∀ r, post r) : wpX_pack post (f0, f1, f2, f3, f4, a1, a2, a3, a4, a5, a6, a7, a8, a9) p0 p1 p2 p3 := H _
theorem ap_leG {post : Int32 → Prop} {p : Int32} (H : ∀ r, post r) : wpX_leftOf post (f0, f1, f2, f3, f4, a1, a2, a3, a4, a5, a6, a7, a8, a9) p := H _
theorem ap_boG {post : Int32 → Prop} {p : Int32} (H : ∀ r, post r) : wpX_bottomOf post (f0, f1, f2, f3, f4, a1, a2, a3, a4, a5, a6, a7, a8, a9) p := H _
theorem ap_wiG {post : Int32 → Prop} {p : Int32} (H : ∀ r, post r) : wpX_wideOf post (f0, f1, f2, f3, f4, a1, a2, a3, a4, a5, a6, a7, a8, a9) p := H _
theorem ap_hiG {post : Int32 → Prop} {p : Int32} (H : ∀ r, post r) : wpX_highOf post (f0, f1, f2, f3, f4, a1, a2, a3, a4, a5, a6, a7, a8, a9) p := H _
theorem ap_inside {post : Int32 → Prop} {p0 p1 : Int32} (H : ∀ r, post r) : wpX_inside post (f0, f1, f2, f3, f4, a1, a2, a3, a4, a5, a6, a7, a8, a9) p0 p1 := by
  unfold wpX_inside
  exact ap_leG (fun _ => ap_leG (fun _ => br_c (fun _ => H _) (fun _ => ap_boG (fun _ => ap_boG (fun _ => br_c (fun _ => ap_leG (fun _ => ap_wiG (fun _ => ap_leG (fun _ => ap_wiG (fun _ => br_c (fun _ => ap_boG (fun _ => ap_hiG (fun _ => ap_boG (fun _ => ap_hiG (fun _ => br_c (fun _ => H _) (fun _ => H _)))))) (fun _ => H _)))))) (fun _ => H _))))))
theorem ap_meets {post : Int32 → Prop} {p0 p1 : Int32} (H : ∀ r, post r) : wpX_meets post (f0, f1, f2, f3, f4, a1, a2, a3, a4, a5, a6, a7, a8, a9) p0 p1 := by
  unfold wpX_meets
  exact ap_leG (fun _ => ap_leG (fun _ => ap_wiG (fun _ => br_c (fun _ => H _) (fun _ => ap_leG (fun _ => ap_leG (fun _ => ap_wiG (fun _ => br_c (fun _ => ap_boG (fun _ => ap_boG (fun _ => ap_hiG (fun _ => br_c (fun _ => H _) (fun _ => ap_boG (fun _ => ap_boG (fun _ => ap_hiG (fun _ => br_c (fun _ => H _) (fun _ => H _))))))))) (fun _ => H _))))))))
theorem ap_keepC {post : St2 → Prop} {p0 : Int32} {m : Nat} (hm : m < 1024) (H : ∀ b7, post (f0, f1, f2, f3, nI (m + 1), a1, a2, a3, a4, a5, a6, b7, a8, a9)) : wpX_keepCandidate post (f0, f1, f2, f3, nI m, a1, a2, a3, a4, a5, a6, a7, a8, a9) p0 :=
  ⟨pk_in m 1024 hm, nm_e (nm_r (nI_1 m) (H _))⟩
theorem ap_offer {post : St2 → Prop} {p0 p1 p2 p3 : Int32} {m : Nat} (hm : m < 1024) (H : ∀ b7, post (f0, f1, f2, f3, nI (m + 1), a1, a2, a3, a4, a5, a6, b7, a8, a9)) : wpX_offer post (f0, f1, f2, f3, nI m, a1, a2, a3, a4, a5, a6, a7, a8, a9) p0 p1 p2 p3 := by
  unfold wpX_offer
  exact ap_paG (fun _ => ap_keepC hm (fun b7 => H b7))
theorem ap_s137 {post : St2 → Prop} {x3 x4 x5 x6 x10 : Int32} {m : Nat} (hm : m < 1024) (H : ∀ k b7, k ≤ m + 1 → post (f0, f1, f2, f3, nI k, a1, a2, a3, a4, a5, a6, b7, a8, a9)) : wX_splitOne_137 post x3 x4 x5 x6 x10 f0 f1 f2 f3 (nI m) a1 a2 a3 a4 a5 a6 a7 a8 a9 := by
  unfold wX_splitOne_137
  exact br_c (fun _ => H m a7 (by omega)) (fun _ => ap_offer hm (fun b7 => H (m + 1) b7 (by omega)))
theorem ap_s121 {post : St2 → Prop} {x3 x4 x5 x6 x9 x10 : Int32} {m : Nat} (hm : m + 1 < 1024) (H : ∀ k b7, k ≤ m + 2 → post (f0, f1, f2, f3, nI k, a1, a2, a3, a4, a5, a6, b7, a8, a9)) : wX_splitOne_121 post x3 x4 x5 x6 x9 x10 f0 f1 f2 f3 (nI m) a1 a2 a3 a4 a5 a6 a7 a8 a9 := by
  unfold wX_splitOne_121
  exact br_c (fun _ => ap_s137 (by omega) (fun k b7 hk => H k b7 (by omega))) (fun _ => ap_offer (by omega) (fun b7 => ap_s137 (by omega) (fun k c7 hk => H k c7 (by omega))))
theorem ap_s99 {post : St2 → Prop} {x3 x4 x5 x6 x8 x9 x10 : Int32} {m : Nat} (hm : m + 2 < 1024) (H : ∀ k b7, k ≤ m + 3 → post (f0, f1, f2, f3, nI k, a1, a2, a3, a4, a5, a6, b7, a8, a9)) : wX_splitOne_99 post x3 x4 x5 x6 x8 x9 x10 f0 f1 f2 f3 (nI m) a1 a2 a3 a4 a5 a6 a7 a8 a9 := by
  unfold wX_splitOne_99
  exact br_c (fun _ => ap_s121 (by omega) (fun k b7 hk => H k b7 (by omega))) (fun _ => ap_offer (by omega) (fun b7 => ap_s121 (by omega) (fun k c7 hk => H k c7 (by omega))))
theorem ap_splitOne {post : St2 → Prop} {p0 p1 : Int32} {m : Nat} (hm : m + 3 < 1024) (H : ∀ k b7, k ≤ m + 4 → post (f0, f1, f2, f3, nI k, a1, a2, a3, a4, a5, a6, b7, a8, a9)) : wpX_splitOne post (f0, f1, f2, f3, nI m, a1, a2, a3, a4, a5, a6, a7, a8, a9) p0 p1 := by
  unfold wpX_splitOne
  exact ap_leG (fun _ => ap_boG (fun _ => ap_wiG (fun _ => ap_hiG (fun _ => ap_leG (fun _ => fun _ _ => ap_leG (fun _ => ap_wiG (fun _ => fun _ _ => ap_boG (fun _ => fun _ _ => ap_boG (fun _ => ap_hiG (fun _ => fun _ _ =>
    br_c (fun _ => ap_s99 (by omega) (fun k b7 hk => H k b7 (by omega))) (fun _ => ap_offer (by omega) (fun b7 => ap_s99 (by omega) (fun k c7 hk => H k c7 (by omega))))))))))))))
theorem ap_cov9 {post : Int32 → Prop} {x1 x2 : Int32} {m : Nat} (hm : m ≤ 1024) (H : ∀ r, post r) : ∃ n, wX_isCovered_9 post x1 x2 f0 f1 f2 f3 (nI m) a1 a2 a3 a4 a5 a6 a7 a8 a9 n 0 :=
  pk_loop (σ := Unit) (fun n i _ => wX_isCovered_9 post x1 x2 f0 f1 f2 f3 (nI m) a1 a2 a3 a4 a5 a6 a7 a8 a9 n (nI i)) (fun _ _ => True) m 0 () (by omega) trivial
    (fun n _ _ => pk_le m m (fun _ => H 0) (fun z => absurd z (by omega)))
    (fun n i _ hi _ hn => pk_le m i (fun z => absurd z (by omega)) (fun _ => br_c (fun _ => nm_r (nI_1 i) (hn () trivial)) (fun _ => ⟨pk_in i 1024 (by omega), ap_inside (fun r => br_c (fun _ => nm_r (nI_1 i) (hn () trivial)) (fun _ => ⟨pk_in i 1024 (by omega), br_c (fun _ => br_c (fun _ => nm_r (nI_1 i) (hn () trivial)) (fun _ => H 1)) (fun _ => H 1)⟩))⟩)))
theorem ap_isCov {post : Int32 → Prop} {m k : Nat} (hm : m ≤ 1024) (hk : k < 1024) (H : ∀ r, post r) : wpX_isCovered post (f0, f1, f2, f3, nI m, a1, a2, a3, a4, a5, a6, a7, a8, a9) (nI k) :=
  ⟨pk_in k 1024 hk, nm_e (ap_cov9 hm H)⟩
theorem ap_sp95 {post : St2 → Prop} {m : Nat} (hm : m ≤ 256) (H : ∀ g3 b6, post (f0, f1, f2, g3, nI m, a1, a2, a3, a4, a5, b6, a7, a8, a9)) : ∃ n, wX_splitHoles_95 post f0 f1 f2 (nI m) n 0 0 a1 a2 a3 a4 a5 a6 a7 a8 a9 :=
  pk_loop (σ := Nat × (Nat → Int32)) (fun n i s => wX_splitHoles_95 post f0 f1 f2 (nI m) n (nI i) (nI s.1) a1 a2 a3 a4 a5 s.2 a7 a8 a9) (fun i s => s.1 ≤ i) m 0 (0, a6) (by omega) (Nat.le_refl 0)
    (fun n s hs => pk_le m m (fun _ => H _ _) (fun z => absurd z (by omega)))
    (fun n i s hi hs hn => pk_le m i (fun z => absurd z (by omega)) (fun _ => ap_isCov (by omega) (by omega) (fun r => br_c
      (fun _ => ⟨pk_in i 1024 (by omega), pk_in s.1 256 (Nat.lt_of_le_of_lt hs (by omega)), nm_e (nm_r (nI_1 s.1) (nm_r (nI_1 i) (hn (s.1 + 1, _) (Nat.succ_le_succ hs))))⟩)
      (fun _ => nm_r (nI_1 i) (hn s (Nat.le_succ_of_le hs))))))
theorem ap_sp36 {post : St2 → Prop} {x2 : Int32} (H : ∀ g3 g4 b6 b7, post (f0, f1, f2, g3, g4, a1, a2, a3, a4, a5, b6, b7, a8, a9)) : ∃ n, wX_splitHoles_36 post x2 n 0 f0 f1 f2 1 0 a1 a2 a3 a4 a5 a6 a7 a8 a9 := by
  have hend : ∀ (n m : Nat) (b7 : Nat → Int32), m ≤ 4 → wX_splitHoles_36 post x2 (n + 1) (nI 1) f0 f1 f2 1 (nI m) a1 a2 a3 a4 a5 a6 b7 a8 a9 := fun n m b7 hm => pk_le 1 1 (fun _ => ap_sp95 (by omega) (fun g3 b6 => H g3 (nI m) b6 b7)) (fun z => absurd z (by omega))
  exact ⟨0 + 1 + 1, pk_le 1 0 (fun z => absurd z (by omega)) (fun _ => ⟨pk_in 0 256 (by omega), ap_meets (fun r => br_c
    (fun _ => ⟨pk_in 0 256 (by omega), ap_keepC (m := 0) (by omega) (fun b7 => nm_r (nI_1 0) (hend 0 1 b7 (by omega)))⟩)
    (fun _ => ⟨pk_in 0 256 (by omega), ap_splitOne (m := 0) (by omega) (fun k b7 hk => nm_r (nI_1 0) (hend 0 k b7 (by omega)))⟩))⟩)⟩
/-- splitting one hole never leaves the arrays; what it leaves behind isn't asked -/
theorem ap_split {post : St2 → Prop} (H : ∀ g3 g4 b6 b7, post (f0, f1, f2, g3, g4, a1, a2, a3, a4, a5, b6, b7, a8, a9)) : wpX_splitHoles post (f0, f1, f2, 1, f4, a1, a2, a3, a4, a5, a6, a7, a8, a9) 0 := by
  unfold wpX_splitHoles
  exact ⟨pk_in 0 20 (by omega), pk_in 0 20 (by omega), pk_in 0 20 (by omega), pk_in 0 20 (by omega), ap_paG (fun r => ap_sp36 H)⟩
end
end
section
section
variable {f0 f1 f2 f3 f4 : Int32} {a1 a2 a3 a4 a5 a6 a7 a8 a9 : Nat → Int32}
theorem ap_height {post : Int32 → Prop} {w h x y : Nat} (hw : w ≤ 16) (hh : h ≤ 16) (hx : x < w) (hy : y ≤ h) (h5 : ∀ j, j < h → a5 j = ap_M w) (H : post (nI (h - y))) : wpX_heightAt post (f0, nI h, f2, f3, f4, a1, a2, a3, a4, a5, a6, a7, a8, a9) (nI x) (nI y) :=
  pk_loop (σ := Unit) (fun n i _ => wX_heightAt_2 post (nI x) (nI y) f0 (nI h) f2 f3 f4 a1 a2 a3 a4 a5 a6 a7 a8 a9 n (nI i)) (fun _ _ => True) h y () hy trivial
    (fun n _ _ => pk_le h h (fun _ => by rw [pk_sub hy]; exact H) (fun z => absurd z (by omega)))
    (fun n i _ hi _ hn => pk_le h i (fun z => absurd z (by omega)) (fun _ => ⟨pk_in i 16 (by omega), br_f (by rw [nI_clamp (show i < 2 ^ 31 by omega), h5 i hi]; exact ap_bit w (by omega) x hx) (nm_r (nI_1 i) (hn () trivial))⟩))
theorem ap_keep0 {post : St2 → Prop} {p2 p3 : Int32} {w h : Nat} (hw : w ≤ 16) (hh : h ≤ 16) (e2 : p2 = nI w) (e3 : p3 = nI h) (H : ∀ b6 : Nat → Int32, b6 0 = nI (w * 32 + h) → post (f0, f1, f2, 1, f4, a1, a2, a3, a4, a5, b6, a7, a8, a9)) : wpX_keepIfLowest post (f0, f1, f2, 0, f4, a1, a2, a3, a4, a5, a6, a7, a8, a9) 0 0 p2 p3 := by
  subst e2 e3
  unfold wpX_keepIfLowest
  refine fun x5 _ => br_t (by decide) ?_
  unfold wX_keepIfLowest_30
  exact ap_pk hw hh ⟨pk_in 0 256 (by omega), nm_e (nm_r (e' := 1) (by decide) (H _ (by rw [sb_cl0]; exact pk_us)))⟩
theorem ap_keep1 {post : St2 → Prop} {p2 p3 : Int32} {w y : Nat} (hy0 : 0 < y) (hy : y ≤ 16) (e2 : p2 = nI w) (h5 : a5 (y - 1) = ap_M w) (H : post (f0, f1, f2, f3, f4, a1, a2, a3, a4, a5, a6, a7, a8, a9)) : wpX_keepIfLowest post (f0, f1, f2, f3, f4, a1, a2, a3, a4, a5, a6, a7, a8, a9) 0 (nI y) p2 p3 := by
  subst e2
  have e : nI y - 1 = nI (y - 1) := by
    obtain ⟨q, rfl⟩ : ∃ q, y = q + 1 := ⟨y - 1, by omega⟩
    exact nI_pred q
  unfold wpX_keepIfLowest
  refine nm_r (e' := ap_M w) (sb_shl0 _) (br_f (nI_nle hy0 (by omega)) ⟨pk_in (y - 1) 16 (by omega) e, br_t ?_ H⟩)
  rw [e, nI_clamp (by omega), h5, Int32.and_self]
/-- the last column: the waiting strip is taken off, and kept if it is the lowest -/
theorem ap_sw_last {post : St2 → Prop} {w h y n : Nat} (hw : w ≤ 16) (hh : h ≤ 16) (hy : y < h) (h5 : ∀ j, j < h → a5 j = ap_M w) (h8 : a8 0 = 0) (h9 : a9 0 = nI (h - y))
    (hI : (y = 0 ∧ f3 = 0) ∨ (0 < y ∧ f3 = 1 ∧ a6 0 = nI (w * 32 + h))) (H : ∀ b6 : Nat → Int32, b6 0 = nI (w * 32 + h) → post (nI w, nI h, f2, 1, f4, a1, a2, a3, a4, a5, b6, a7, a8, a9)) :
    wX_sweepFrom_4 post (nI y) (n + 1 + 1) 1 (nI w) (nI w) (nI h) f2 f3 f4 a1 a2 a3 a4 a5 a6 a7 a8 a9 := by
  have hend : ∀ (x2 : Int32) (b6 : Nat → Int32), b6 0 = nI (w * 32 + h) → wX_sweepFrom_4 post (nI y) (n + 1) x2 (nI (w + 1)) (nI w) (nI h) f2 1 f4 a1 a2 a3 a4 a5 b6 a7 a8 a9 := fun x2 b6 h6 => pk_lt w (w + 1) (fun _ => H b6 h6) (fun z => absurd z (by omega))
  have h35 : ∀ (k : Nat) (x5 : Int32) (b6 : Nat → Int32), b6 0 = nI (w * 32 + h) → wX_sweepFrom_35 post (wX_sweepFrom_4 post (nI y) (n + 1)) (nI y) (nI w) 0 (k + 1) 0 x5 (nI w) (nI h) f2 1 f4 a1 a2 a3 a4 a5 b6 a7 a8 a9 := fun k x5 b6 h6 => br_t (by decide) (br_t (by decide) (nm_r (nI_1 w) (hend 0 b6 h6)))
  refine pk_lt w w (fun z => absurd z (by omega)) (fun _ => pk_le w w (fun _ => ⟨0 + 1 + 1, ?_⟩) (fun z => absurd z (by omega)))
  refine br_f (by decide) ⟨pk_in 0 17 (by omega) (by decide), br_f ?_ (nm_r (e' := 0) (by decide) ⟨pk_in 0 17 (by omega), nm_r (e' := 0) (by rw [sb_cl0]; exact h8) ⟨pk_in 0 17 (by omega), ?_⟩⟩)⟩
  · rw [show ((1 : Int32) - 1).toNatClampNeg = 0 by decide, h9]
    exact nI_nle (by omega) (by omega)
  · rcases hI with ⟨e0, e3⟩ | ⟨hy0, e3, h6⟩
    · subst e0 e3
      exact ap_keep0 hw hh (Int32.sub_zero _) (by rw [sb_cl0, h9]; rfl) (fun b6 h6 => h35 0 0 b6 h6)
    · subst e3
      exact ap_keep1 hy0 (by omega) (Int32.sub_zero _) (h5 (y - 1) (by omega)) (h35 0 0 a6 h6)
theorem ap_sw_mid {post : St2 → Prop} {w h x y n : Nat} (hw : w ≤ 16) (hh : h ≤ 16) (hx : x < w) (hy : y < h) (h5 : ∀ j, j < h → a5 j = ap_M w) (h9 : a9 0 = nI (h - y))
    (H : wX_sweepFrom_4 post (nI y) n 1 (nI (x + 1)) (nI w) (nI h) f2 f3 f4 a1 a2 a3 a4 a5 a6 a7 a8 a9) :
    wX_sweepFrom_4 post (nI y) (n + 1) 1 (nI x) (nI w) (nI h) f2 f3 f4 a1 a2 a3 a4 a5 a6 a7 a8 a9 := by
  have h9' : a9 ((1 : Int32) - 1).toNatClampNeg = nI (h - y) := by
    rw [show ((1 : Int32) - 1).toNatClampNeg = 0 by decide, h9]
  refine pk_lt w x (fun z => absurd z (by omega)) (fun _ => pk_le w x (fun z => absurd z (by omega)) (fun _ => ap_height hw hh hx (by omega) h5 ⟨0 + 1, ?_⟩))
  refine br_f (by decide) ⟨pk_in 0 17 (by omega) (by decide), br_t ?_ ?_⟩
  · rw [h9']
    exact nI_le (Nat.le_refl _) (by omega)
  · refine br_f (nI_nle (by omega) (by omega)) (br_f (by decide) ⟨pk_in 0 17 (by omega) (by decide), br_t ?_ (nm_r (nI_1 x) H)⟩)
    rw [h9']
    exact nI_le (Nat.le_refl _) (by omega)
theorem ap_sw_run {post : St2 → Prop} {w h y : Nat} (hw : w ≤ 16) (hh : h ≤ 16) (hy : y < h) (h5 : ∀ j, j < h → a5 j = ap_M w) (h8 : a8 0 = 0) (h9 : a9 0 = nI (h - y))
    (hI : (y = 0 ∧ f3 = 0) ∨ (0 < y ∧ f3 = 1 ∧ a6 0 = nI (w * 32 + h))) (H : ∀ b6 : Nat → Int32, b6 0 = nI (w * 32 + h) → post (nI w, nI h, f2, 1, f4, a1, a2, a3, a4, a5, b6, a7, a8, a9)) :
    ∀ k x, x + k = w → wX_sweepFrom_4 post (nI y) (k + 1 + 1) 1 (nI x) (nI w) (nI h) f2 f3 f4 a1 a2 a3 a4 a5 a6 a7 a8 a9 := by
  intro k
  induction k with
  | zero =>
    intro x hx
    have e : x = w := by omega
    subst e
    exact ap_sw_last hw hh hy h5 h8 h9 hI H
  | succ k ih =>
    intro x hx
    exact ap_sw_mid hw hh (by omega) hy h5 h9 (ih (x + 1) (by omega))
/-- one row's sweep over a free sheet: the corner's hole stands behind it -/
theorem ap_sweep {post : St2 → Prop} {w h y : Nat} (hw0 : 0 < w) (hw : w ≤ 16) (hh : h ≤ 16) (hy : y < h) (h5 : ∀ j, j < h → a5 j = ap_M w)
    (hI : (y = 0 ∧ f3 = 0) ∨ (0 < y ∧ f3 = 1 ∧ a6 0 = nI (w * 32 + h))) (H : ∀ b6 b8 b9 : Nat → Int32, b6 0 = nI (w * 32 + h) → post (nI w, nI h, f2, 1, f4, a1, a2, a3, a4, a5, b6, a7, b8, b9)) :
    wpX_sweepFrom post (nI w, nI h, f2, f3, f4, a1, a2, a3, a4, a5, a6, a7, a8, a9) (nI y) := by
  refine ⟨(w - 1) + 1 + 1 + 1, ?_⟩
  refine pk_lt w 0 (fun z => absurd z (by omega)) (fun _ => pk_le w 0 (fun z => absurd z (by omega)) (fun _ => ap_height (x := 0) hw hh hw0 (by omega) h5 ⟨0 + 1, br_t (by decide) ?_⟩))
  refine br_f (nI_nle (by omega) (by omega)) (br_t rfl ?_)
  unfold wX_sweepFrom_105
  refine ⟨pk_in 0 17 (by omega), nm_e ⟨pk_in 0 17 (by omega), nm_e (nm_r (e' := 1) (by decide) (nm_r (e' := nI 1) (by decide) ?_))⟩⟩
  exact ap_sw_run hw hh hy h5 (by rw [sb_cl0, pk_us]; decide) (by rw [sb_cl0, pk_us]; exact ap_b8 _ (by omega)) hI (fun b6 h6 => H b6 _ _ h6) (w - 1) 1 (by omega)
theorem ap_find {post : St2 → Prop} {w h : Nat} (hw0 : 0 < w) (hw : w ≤ 16) (hh0 : 0 < h) (hh : h ≤ 16) (h5 : ∀ j, j < h → a5 j = ap_M w)
    (H : ∀ b6 b8 b9 : Nat → Int32, b6 0 = nI (w * 32 + h) → post (nI w, nI h, f2, 1, f4, a1, a2, a3, a4, a5, b6, a7, b8, b9)) :
    wpX_findHoles post (nI w, nI h, f2, f3, f4, a1, a2, a3, a4, a5, a6, a7, a8, a9) := by
  refine pk_loop (σ := Int32 × (Nat → Int32) × (Nat → Int32) × (Nat → Int32)) (fun n i s => wX_findHoles_7 post n (nI i) (nI w) (nI h) f2 s.1 f4 a1 a2 a3 a4 a5 s.2.1 a7 s.2.2.1 s.2.2.2) (fun i s => (i = 0 ∧ s.1 = 0) ∨ (0 < i ∧ s.1 = 1 ∧ s.2.1 0 = nI (w * 32 + h))) h 0 (0, a6, a8, a9) (by omega) (Or.inl ⟨rfl, rfl⟩) ?_ ?_
  · rintro n ⟨g3, b6, b8, b9⟩ hs
    rcases hs with ⟨e, _⟩ | ⟨_, e3, h6⟩
    · omega
    · dsimp only at e3 h6
      subst e3
      exact pk_le h h (fun _ => H b6 b8 b9 h6) (fun z => absurd z (by omega))
  · rintro n i ⟨g3, b6, b8, b9⟩ hi hs hn
    exact pk_le h i (fun z => absurd z (by omega)) (fun _ => ap_sweep hw0 hw hh hi h5 hs (fun c6 c8 c9 h6 => nm_r (nI_1 i) (hn (1, c6, c8, c9) (Or.inr ⟨by omega, rfl, h6⟩))))
end
end
section
section
variable {f0 f1 f2 f3 f4 : Int32} {a1 a2 a3 a4 a5 a6 a7 a8 a9 : Nat → Int32}
theorem ap_used0 {post : Int32 → Prop} (h3 : a3 0 = 0) (H : post 0) : wpX_isUsed post (f0, f1, f2, f3, f4, a1, a2, a3, a4, a5, a6, a7, a8, a9) 0 :=
  br_f (by decide) (br_f (by decide) ⟨pk_in 0 20 (by omega), br_t (by rw [sb_cl0]; exact h3) H⟩)
theorem ap_used1 {post : Int32 → Prop} (h3 : ¬ a3 0 = 0) (H : post 1) : wpX_isUsed post (f0, f1, f2, f3, f4, a1, a2, a3, a4, a5, a6, a7, a8, a9) 0 :=
  br_f (by decide) (br_f (by decide) ⟨pk_in 0 20 (by omega), br_f (by rw [sb_cl0]; exact h3) H⟩)
theorem ap_lookN {post : Int32 → Prop} {p1 : Int32} (h3 : a3 0 = 0) (H : post (-1)) : wpX_look post (f0, f1, f2, f3, f4, a1, a2, a3, a4, a5, a6, a7, a8, a9) 0 p1 := by
  unfold wpX_look
  exact ap_used0 h3 (br_t rfl H)
/-- what look answers of the rectangle in the corner -/
def ap_due (c d : Nat) (x z : Int32) : Prop := (x = 0 → z = 0) ∧ (x = 1 → z = 0) ∧ (x = 2 → z = nI c) ∧ (x = 3 → z = nI d) ∧ (¬ x = 0 → ¬ x = 1 → ¬ x = 2 → ¬ x = 3 → z = -1)
theorem ap_lookP {post : Int32 → Prop} {p1 z : Int32} {c d : Nat} (h1 : a1 0 = 0) (h2 : a2 0 = 0) (h3 : a3 0 = nI c) (h4 : a4 0 = nI d) (hn : ¬ a3 0 = 0) (hz : ap_due c d p1 z) (H : post z) : wpX_look post (f0, f1, f2, f3, f4, a1, a2, a3, a4, a5, a6, a7, a8, a9) 0 p1 := by
  unfold wpX_look
  obtain ⟨z0, z1, z2, z3, z4⟩ := hz
  refine ap_used1 hn (br_f (by decide) (br_c (fun e => ⟨pk_in 0 20 (by omega), ?_⟩) (fun n0 => br_c (fun e => ⟨pk_in 0 20 (by omega), ?_⟩) (fun n1 => br_c (fun e => ⟨pk_in 0 20 (by omega), ?_⟩) (fun n2 => br_c (fun e => ⟨pk_in 0 20 (by omega), ?_⟩) (fun n3 => ?_))))))
  · rw [sb_cl0, h1, ← z0 e]; exact H
  · rw [sb_cl0, h2, ← z1 e]; exact H
  · rw [sb_cl0, h3, ← z2 e]; exact H
  · rw [sb_cl0, h4, ← z3 e]; exact H
  · rw [← z4 n0 n1 n2 n3]; exact H
theorem ap_free {post : Int32 → Prop} {V : Int32} (h3 : ∀ j, 0 < j → j < 20 → a3 j = 0) (hV : (a3 0 = 0 ∧ V = f0 * f1) ∨ (¬ a3 0 = 0 ∧ V = f0 * f1 - a3 0 * a4 0)) (H : post V) : wpX_freeCells post (f0, f1, f2, f3, f4, a1, a2, a3, a4, a5, a6, a7, a8, a9) := by
  unfold wpX_freeCells
  refine nm_e (pk_loop (fun n i s => wX_freeCells_12 post f0 f1 f2 f3 f4 a1 a2 a3 a4 a5 a6 a7 a8 a9 n s (nI i)) (fun i s => (i = 0 ∧ s = f0 * f1) ∨ (0 < i ∧ s = V)) 20 0 (f0 * f1) (by omega) (Or.inl ⟨rfl, rfl⟩) ?_ ?_)
  · intro n s hs
    rcases hs with ⟨e, _⟩ | ⟨_, e⟩
    · omega
    · exact pk_le 20 20 (fun _ => by rw [e]; exact H) (fun z => absurd z (by omega))
  · intro n i s hi hs hn
    refine pk_le 20 i (fun z => absurd z (by omega)) (fun _ => ⟨pk_in i 20 hi, ?_⟩)
    rw [nI_clamp (show i < 2 ^ 31 by omega)]
    rcases hs with ⟨e, es⟩ | ⟨h0, es⟩
    · subst e
      rcases hV with ⟨e3, eV⟩ | ⟨e3, eV⟩
      · exact br_t e3 (nm_r (nI_1 0) (hn _ (Or.inr ⟨by omega, by rw [es, eV]⟩)))
      · exact br_f e3 ⟨pk_in 0 20 (by omega), pk_in 0 20 (by omega), nm_e (nm_r (nI_1 0) (hn _ (Or.inr ⟨by omega, by rw [es, eV]⟩)))⟩
    · exact br_t (h3 i h0 hi) (nm_r (nI_1 i) (hn _ (Or.inr ⟨by omega, es⟩)))
theorem ap_removeN {post : Int32 → St2 → Prop} (h3 : a3 0 = 0) (H : post (-1) (f0, f1, f2, f3, f4, a1, a2, a3, a4, a5, a6, a7, a8, a9)) : wpX_remove post (f0, f1, f2, f3, f4, a1, a2, a3, a4, a5, a6, a7, a8, a9) 0 := by
  unfold wpX_remove
  exact ap_used0 h3 (br_t rfl H)
theorem ap_removeP {post : Int32 → St2 → Prop} {w h c d : Nat} (hw0 : 0 < w) (hw : w ≤ 16) (hh0 : 0 < h) (hh : h ≤ 16) (hd : d ≤ h) (h1 : a1 0 = 0) (h2 : a2 0 = 0) (h3 : a3 0 = nI c) (h4 : a4 0 = nI d) (hn : ¬ a3 0 = 0)
    (h5 : ∀ j, j < d → a5 j = ap_M w ^^^ ap_M c) (h5' : ∀ j, d ≤ j → j < h → a5 j = ap_M w)
    (H : ∀ b3 b5 b6 b8 b9 : Nat → Int32, b6 0 = nI (w * 32 + h) → post 0 (nI w, nI h, 0, 1, f4, a1, a2, b3, a4, b5, b6, a7, b8, b9)) :
    wpX_remove post (nI w, nI h, 1, f3, f4, a1, a2, a3, a4, a5, a6, a7, a8, a9) 0 := by
  unfold wpX_remove
  refine ap_used1 hn (br_f (by decide) (ap_flip (by omega) h1 h2 h3 h4 (fun b5 g1 g2 => ⟨pk_in 0 20 (by omega), nm_e (nm_r (e' := 0) (by decide) ?_)⟩)))
  refine ap_find hw0 hw hh0 hh (fun j hj => ?_) (fun b6 b8 b9 h6 => H _ b5 b6 b8 b9 h6)
  by_cases e : j < d
  · rw [g1 j e, h5 j e, ap_xx]
  · rw [g2 j (by omega), h5' j (by omega) hj]
theorem ap_fit15 {post : Int32 → Prop} {J : Int32 → Int32 → Prop} {x1 : Int32} {w h v : Nat} (hw : w ≤ 16) (hh0 : 0 < h) (hh : h ≤ 16) (hv : v ≤ 16) (h6 : a6 0 = nI (w * 32 + h))
    (H0 : w < v → J (x1 + 0) (nI (v + 1))) (H1 : v ≤ w → J (x1 + nI h) (nI (v + 1))) : ∃ n, wX_fitting_15 post J x1 (nI v) f0 f1 f2 1 f4 a1 a2 a3 a4 a5 a6 a7 a8 a9 n 0 0 := by
  have e : a6 (0 : Int32).toNatClampNeg = nI (w * 32 + h) := by
    rw [sb_cl0]
    exact h6
  have hend : ∀ (n : Nat) (x3 : Int32), J (x1 + x3) (nI (v + 1)) → wX_fitting_15 post J x1 (nI v) f0 f1 f2 1 f4 a1 a2 a3 a4 a5 a6 a7 a8 a9 (n + 1) x3 (nI 1) := fun n x3 hp => pk_le 1 1 (fun _ => nm_e (nm_r (nI_1 v) hp)) (fun z => absurd z (by omega))
  refine ⟨0 + 1 + 1, pk_le 1 0 (fun z => absurd z (by omega)) (fun _ => ⟨pk_in 0 256 (by omega), ap_wideOf e hw hh ?_⟩)⟩
  refine pk_lt w v (fun z => nm_r (nI_1 0) (hend 0 0 (H0 z))) (fun z => ⟨pk_in 0 256 (by omega), ap_highOf e hw hh ?_⟩)
  exact br_f (nI_nle hh0 (by omega)) ⟨pk_in 0 256 (by omega), ap_highOf e hw hh (nm_r (nI_1 0) (hend 0 _ (H1 z)))⟩
theorem ap_fitting {post : Int32 → Prop} {w h : Nat} (hw : w ≤ 16) (hh0 : 0 < h) (hh : h ≤ 16) (h6 : a6 0 = nI (w * 32 + h)) (H : post (nI (w * h))) : wpX_fitting post (f0, f1, f2, 1, f4, a1, a2, a3, a4, a5, a6, a7, a8, a9) := by
  refine pk_loop (fun n i s => wX_fitting_4 post f0 f1 f2 1 f4 a1 a2 a3 a4 a5 a6 a7 a8 a9 n s (nI i)) (fun i s => 1 ≤ i ∧ s = nI (min (i - 1) w * h)) 17 1 0 (by omega) ⟨Nat.le_refl 1, by rw [Nat.sub_self, Nat.zero_min, Nat.zero_mul]; rfl⟩ ?_ ?_
  · rintro n s ⟨_, e⟩
    rw [show min (17 - 1) w = w by omega] at e
    exact pk_lt 16 17 (fun _ => by rw [e]; exact H) (fun z => absurd z (by omega))
  · rintro n i s hi ⟨i1, e⟩ hn
    refine pk_lt 16 i (fun z => absurd z (by omega)) (fun _ => ap_fit15 hw hh0 hh (by omega) h6 (fun z => hn _ ⟨by omega, ?_⟩) (fun z => hn _ ⟨by omega, ?_⟩))
    · rw [e, Int32.add_zero, show min (i + 1 - 1) w = min (i - 1) w by omega]
    · rw [e, nI_add, show min (i + 1 - 1) w = min (i - 1) w + 1 by omega, Nat.add_mul, Nat.one_mul]
/-- the rectangle goes to the corner -/
theorem ap_put {post : Int32 → St2 → Prop} {x1 x2 x5 : Int32} {c d : Nat} (hc : c ≤ 16) (hd : d ≤ 16) (hx : (x5 = 0 ∧ x1 = nI c ∧ x2 = nI d) ∨ (¬ x5 = 0 ∧ x2 = nI c ∧ x1 = nI d)) (h3 : ∀ j, j < 20 → a3 j = 0)
    (H : ∀ (g3 g4 : Int32) (b1 b2 b3 b4 b5 b6 b7 : Nat → Int32), b1 0 = 0 → b2 0 = 0 → b3 0 = nI c → b4 0 = nI d → (∀ j, 0 < j → j < 20 → b3 j = 0) → (∀ j, j < d → b5 j = a5 j ^^^ ap_M c) → (∀ j, d ≤ j → b5 j = a5 j) → post 0 (f0, f1, 1, g3, g4, b1, b2, b3, b4, b5, b6, b7, a8, a9)) :
    wX_place_79 post x1 x2 0 x5 f0 f1 0 1 f4 a1 a2 a3 a4 a5 a6 a7 a8 a9 := by
  have h174 : ∀ (b1 b2 b3 : Nat → Int32) (z0 : Int32), z0 = nI d → b1 0 = 0 → b2 0 = 0 → b3 0 = nI c → (∀ j, 0 < j → j < 20 → b3 j = 0) → wX_place_174 post 0 z0 0 f0 f1 0 1 f4 b1 b2 b3 a4 a5 a6 a7 a8 a9 := by
    intro b1 b2 b3 z0 e k1 k2 k3 k3'
    have k4 : upd a4 (0 : Int32).toNatClampNeg z0.toInt8.toInt32 0 = nI d := by
      rw [sb_cl0, pk_us, e]
      exact ap_b8 d (by omega)
    unfold wX_place_174
    refine ⟨pk_in 0 20 (by omega), nm_e (nm_r (e' := 1) (by decide) ?_)⟩
    refine ap_flip hd k1 k2 k3 k4 (fun b5 g1 g2 => ?_)
    exact ap_split (fun g3 g4 b6 b7 => H g3 g4 b1 b2 b3 _ b5 b6 b7 k1 k2 k3 k4 k3' g1 g2)
  have h156 : ∀ (b1 b2 : Nat → Int32) (z0 : Int32), z0 = nI c → b1 0 = 0 → b2 0 = 0 → wX_place_156 post x1 x2 x5 0 z0 0 f0 f1 0 1 f4 b1 b2 a3 a4 a5 a6 a7 a8 a9 := by
    intro b1 b2 z0 e k1 k2
    have k3 : upd a3 (0 : Int32).toNatClampNeg z0.toInt8.toInt32 0 = nI c := by
      rw [sb_cl0, pk_us, e]
      exact ap_b8 c (by omega)
    have k3' : ∀ j, 0 < j → j < 20 → upd a3 (0 : Int32).toNatClampNeg z0.toInt8.toInt32 j = 0 := by
      intro j j0 hj
      rw [sb_cl0, pk_un (by omega)]
      exact h3 j hj
    unfold wX_place_156
    refine ⟨pk_in 0 20 (by omega), nm_e ?_⟩
    rcases hx with ⟨e5, e1, e2⟩ | ⟨e5, e2, e1⟩
    · exact br_t e5 (h174 b1 b2 _ x2 e2 k1 k2 k3 k3')
    · exact br_f e5 (h174 b1 b2 _ x1 e1 k1 k2 k3 k3')
  have h113 : wX_place_113 post x1 x2 0 x5 0 f0 f1 0 1 f4 a1 a2 a3 a4 a5 a6 a7 a8 a9 := by
    unfold wX_place_113
    have k1 : upd a1 (0 : Int32).toNatClampNeg (((0 : Int32) &&& 255).toInt8.toInt32) 0 = 0 := by
      rw [sb_cl0, pk_us]
      decide
    have k2 : upd a2 (0 : Int32).toNatClampNeg (((0 : Int32) >>> ((8 : Int32) &&& 31)).toInt8.toInt32) 0 = 0 := by
      rw [sb_cl0, pk_us]
      decide
    refine ⟨pk_in 0 20 (by omega), nm_e ⟨pk_in 0 20 (by omega), nm_e ?_⟩⟩
    rcases hx with ⟨e5, e1, e2⟩ | ⟨e5, e2, e1⟩
    · exact br_t e5 (h156 _ _ x1 e1 k1 k2)
    · exact br_f e5 (h156 _ _ x2 e2 k1 k2)
  unfold wX_place_79
  refine br_t (by decide) ⟨0 + 1, ?_⟩
  exact br_f (by decide) ⟨pk_in 0 20 (by omega), br_t (by rw [sb_cl0]; exact h3 0 (by omega)) h113⟩
theorem ap_placeA {post : Int32 → St2 → Prop} {p0 p1 p2 : Int32} (hs : ¬ ap_sz p0 p1) (H : post (-1) (f0, f1, f2, f3, f4, a1, a2, a3, a4, a5, a6, a7, a8, a9)) : wpX_place post (f0, f1, f2, f3, f4, a1, a2, a3, a4, a5, a6, a7, a8, a9) p0 p1 p2 := by
  unfold wpX_place
  exact ap_isSize (fun _ => br_t rfl H) (fun z => absurd z hs)
/-- a size that fits in no way -/
theorem ap_placeB {post : Int32 → St2 → Prop} {p2 : Int32} {w h a b : Nat} (hw : w ≤ 16) (hh : h ≤ 16) (ha : a ≤ 16) (hb : b ≤ 16) (hs : ap_sz (nI a) (nI b)) (h6 : a6 0 = nI (w * 32 + h)) (n1 : ¬ (a ≤ w ∧ b ≤ h)) (n2 : p2 = 0 ∨ ¬ (b ≤ w ∧ a ≤ h))
    (H : post (-3) (f0, f1, 0, 1, f4, a1, a2, a3, a4, a5, a6, a7, a8, a9)) : wpX_place post (f0, f1, 0, 1, f4, a1, a2, a3, a4, a5, a6, a7, a8, a9) (nI a) (nI b) p2 := by
  have h79 : ∀ x5 : Int32, wX_place_79 post (nI a) (nI b) (-3) x5 f0 f1 0 1 f4 a1 a2 a3 a4 a5 a6 a7 a8 a9 := fun x5 => br_f (by decide) H
  unfold wpX_place
  refine ap_isSize (fun z => absurd hs z) (fun _ => br_f (by decide) (br_t (by decide) ?_))
  refine ap_lowest hw hh ha hb h6 (fun z y => absurd ⟨z, y⟩ n1) (fun _ => br_c (fun _ => h79 0) (fun e => ?_))
  have n2' : ¬ (b ≤ w ∧ a ≤ h) := n2.resolve_left e
  refine ap_lowest hw hh hb ha h6 (fun z y => absurd ⟨z, y⟩ n2') (fun _ => br_t (by decide) ?_)
  unfold wX_place_67 wX_place_68
  exact br_t rfl (h79 0)
/-- a size that fits: straight (x5 = 0) or turned -/
theorem ap_placeC {post : Int32 → St2 → Prop} {p2 : Int32} {w h a b : Nat} (hw : w ≤ 16) (hh : h ≤ 16) (ha : a ≤ 16) (hb : b ≤ 16) (hs : ap_sz (nI a) (nI b)) (h6 : a6 0 = nI (w * 32 + h)) (y1 : a ≤ w ∧ b ≤ h)
    (H : wX_place_79 post (nI a) (nI b) 0 0 f0 f1 0 1 f4 a1 a2 a3 a4 a5 a6 a7 a8 a9) : wpX_place post (f0, f1, 0, 1, f4, a1, a2, a3, a4, a5, a6, a7, a8, a9) (nI a) (nI b) p2 := by
  have h67 : ∀ x6 : Int32, wX_place_67 post (nI a) (nI b) 0 x6 f0 f1 0 1 f4 a1 a2 a3 a4 a5 a6 a7 a8 a9 := by
    intro x6
    unfold wX_place_67 wX_place_68
    exact br_t rfl H
  unfold wpX_place
  refine ap_isSize (fun z => absurd hs z) (fun _ => br_f (by decide) (br_t (by decide) ?_))
  refine ap_lowest hw hh ha hb h6 (fun _ _ => br_c (fun _ => H) (fun e => ?_)) (fun z => absurd y1 z)
  exact ap_lowest hw hh hb ha h6 (fun _ _ => br_f (by decide) (br_f (by decide) (br_t (by decide) (h67 0)))) (fun _ => br_t (by decide) (h67 (-3)))
theorem ap_placeD {post : Int32 → St2 → Prop} {p2 : Int32} {w h a b : Nat} (hw : w ≤ 16) (hh : h ≤ 16) (ha : a ≤ 16) (hb : b ≤ 16) (hs : ap_sz (nI a) (nI b)) (h6 : a6 0 = nI (w * 32 + h)) (n1 : ¬ (a ≤ w ∧ b ≤ h)) (hp : ¬ p2 = 0) (y2 : b ≤ w ∧ a ≤ h)
    (H : wX_place_79 post (nI a) (nI b) 0 1 f0 f1 0 1 f4 a1 a2 a3 a4 a5 a6 a7 a8 a9) : wpX_place post (f0, f1, 0, 1, f4, a1, a2, a3, a4, a5, a6, a7, a8, a9) (nI a) (nI b) p2 := by
  have h63 : wX_place_63 post (nI a) (nI b) (-3) 0 f0 f1 0 1 f4 a1 a2 a3 a4 a5 a6 a7 a8 a9 := by
    unfold wX_place_63 wX_place_68
    exact br_f (by decide) H
  unfold wpX_place
  refine ap_isSize (fun z => absurd hs z) (fun _ => br_f (by decide) (br_t (by decide) ?_))
  refine ap_lowest hw hh ha hb h6 (fun z y => absurd ⟨z, y⟩ n1) (fun _ => br_f hp ?_)
  exact ap_lowest hw hh hb ha h6 (fun _ _ => br_f (by decide) (br_t (by decide) h63)) (fun z => absurd y2 z)
end
end
section
section
variable {f0 f1 f2 f3 f4 : Int32} {a1 a2 a3 a4 a5 a6 a7 a8 a9 : Nat → Int32} {post : Int32 → St0 → Prop} {mc ms kc ks : Nat}
theorem ap_l366 {z : Int32} {w h : Nat} (hw : w ≤ 16) (hh0 : 0 < h) (hh : h ≤ 16) (h6 : a6 0 = nI (w * 32 + h)) (H : post 1 ()) : wL_lawOf_366 post mc ms (nI w) (nI h) z z kc ks f0 f1 f2 1 f4 a1 a2 a3 a4 a5 a6 a7 a8 a9 := by
  unfold wL_lawOf_366
  exact br_t rfl (ap_fitting hw hh0 hh h6 (br_t (pk_mul w h).symm H))
/-- behind a place that put nothing -/
theorem ap_l296n {x2 x3 x5 z0 : Int32} {w h : Nat} (hw : w ≤ 16) (hh0 : 0 < h) (hh : h ≤ 16) (h3 : ∀ j, j < 20 → a3 j = 0) (h6 : a6 0 = nI (w * 32 + h)) (H : post 1 ()) : wL_lawOf_296 post mc ms x2 x3 x5 (nI w) (nI h) 0 z0 kc ks (nI w) (nI h) f2 1 f4 a1 a2 a3 a4 a5 a6 a7 a8 a9 := by
  unfold wL_lawOf_296
  refine ap_lookN (h3 0 (by omega)) (br_t rfl ?_)
  unfold wL_lawOf_317
  refine br_t rfl (ap_free (V := nI w * nI h) (fun j _ hj => h3 j hj) (Or.inl ⟨h3 0 (by omega), rfl⟩) (br_t rfl ?_))
  unfold wL_lawOf_344
  refine br_t (Int32.sub_zero _).symm (ap_removeN (h3 0 (by omega)) (br_t rfl ?_))
  exact ap_l366 hw hh0 hh h6 H
/-- behind a place that put a rectangle, c wide and d high, into the corner -/
theorem ap_l296p {x2 x3 x5 z0 : Int32} {w h c d : Nat} (hw0 : 0 < w) (hw : w ≤ 16) (hh0 : 0 < h) (hh : h ≤ 16) (hd : d ≤ h) (h1 : a1 0 = 0) (h2 : a2 0 = 0) (h3 : a3 0 = nI c) (h4 : a4 0 = nI d) (hn : ¬ a3 0 = 0) (h3' : ∀ j, 0 < j → j < 20 → a3 j = 0)
    (h5 : ∀ j, j < d → a5 j = ap_M w ^^^ ap_M c) (h5' : ∀ j, d ≤ j → j < h → a5 j = ap_M w) (hm : x2 * x3 = nI c * nI d) (hz : ap_due c d x5 z0) (H : post 1 ()) :
    wL_lawOf_296 post mc ms x2 x3 x5 (nI w) (nI h) 1 z0 kc ks (nI w) (nI h) 1 f3 f4 a1 a2 a3 a4 a5 a6 a7 a8 a9 := by
  unfold wL_lawOf_296
  refine ap_lookP h1 h2 h3 h4 hn hz (br_f (by decide) ?_)
  unfold wL_lawOf_317
  refine br_t rfl (ap_free (V := nI w * nI h - x2 * x3) h3' (Or.inr ⟨hn, by rw [hm, h3, h4]⟩) (br_f (by decide) ?_))
  unfold wL_lawOf_344
  refine br_t rfl (ap_removeP hw0 hw hh0 hh hd h1 h2 h3 h4 hn h5 h5' (fun b3 b5 b6 b8 b9 h6 => br_f (by decide) ?_))
  exact ap_l366 hw hh0 hh h6 H
theorem ap_l237n {x2 x3 x5 x11 z : Int32} {w h : Nat} (hw : w ≤ 16) (hh0 : 0 < h) (hh : h ≤ 16) (h3 : ∀ j, j < 20 → a3 j = 0) (h6 : a6 0 = nI (w * 32 + h)) (H : post 1 ()) : wL_lawOf_237 post mc ms x2 x3 x5 (nI w) (nI h) x11 0 z z kc ks (nI w) (nI h) f2 1 f4 a1 a2 a3 a4 a5 a6 a7 a8 a9 := by
  have k : ∀ z0, wL_lawOf_296 post mc ms x2 x3 x5 (nI w) (nI h) 0 z0 kc ks (nI w) (nI h) f2 1 f4 a1 a2 a3 a4 a5 a6 a7 a8 a9 := fun z0 => ap_l296n hw hh0 hh h3 h6 H
  unfold wL_lawOf_237 wL_lawOf_253
  exact br_t rfl (br_c (fun _ => k 0) (fun _ => br_c (fun _ => k 0) (fun _ => br_c (fun _ => br_c (fun _ => k _) (fun _ => k _)) (fun _ => br_c (fun _ => br_c (fun _ => k _) (fun _ => k _)) (fun _ => k _)))))
theorem ap_l237p {x2 x3 x5 x11 z : Int32} {w h c d : Nat} (hw0 : 0 < w) (hw : w ≤ 16) (hh0 : 0 < h) (hh : h ≤ 16) (hd : d ≤ h) (h1 : a1 0 = 0) (h2 : a2 0 = 0) (h3 : a3 0 = nI c) (h4 : a4 0 = nI d) (hn : ¬ a3 0 = 0) (h3' : ∀ j, 0 < j → j < 20 → a3 j = 0)
    (h5 : ∀ j, j < d → a5 j = ap_M w ^^^ ap_M c) (h5' : ∀ j, d ≤ j → j < h → a5 j = ap_M w) (hx : (x11 = 0 ∧ x2 = nI c ∧ x3 = nI d) ∨ (¬ x11 = 0 ∧ x2 = nI d ∧ x3 = nI c)) (H : post 1 ()) :
    wL_lawOf_237 post mc ms x2 x3 x5 (nI w) (nI h) x11 1 z z kc ks (nI w) (nI h) 1 f3 f4 a1 a2 a3 a4 a5 a6 a7 a8 a9 := by
  have hm : x2 * x3 = nI c * nI d := by
    rcases hx with ⟨_, e2, e3⟩ | ⟨_, e2, e3⟩
    · rw [e2, e3]
    · rw [e2, e3, Int32.mul_comm]
  have k : ∀ z0, ap_due c d x5 z0 → wL_lawOf_296 post mc ms x2 x3 x5 (nI w) (nI h) 1 z0 kc ks (nI w) (nI h) 1 f3 f4 a1 a2 a3 a4 a5 a6 a7 a8 a9 := fun z0 hz => ap_l296p hw0 hw hh0 hh hd h1 h2 h3 h4 hn h3' h5 h5' hm hz H
  have d0 : x5 = 0 → ap_due c d x5 0 := by
    intro e
    subst e
    exact ⟨fun _ => rfl, fun _ => rfl, fun t => absurd t (by decide), fun t => absurd t (by decide), fun t => absurd rfl t⟩
  have d1 : x5 = 1 → ap_due c d x5 0 := by
    intro e
    subst e
    exact ⟨fun _ => rfl, fun _ => rfl, fun t => absurd t (by decide), fun t => absurd t (by decide), fun _ t => absurd rfl t⟩
  have d2 : x5 = 2 → ap_due c d x5 (nI c) := by
    intro e
    subst e
    exact ⟨fun t => absurd t (by decide), fun t => absurd t (by decide), fun _ => rfl, fun t => absurd t (by decide), fun _ _ t => absurd rfl t⟩
  have d3 : x5 = 3 → ap_due c d x5 (nI d) := by
    intro e
    subst e
    exact ⟨fun t => absurd t (by decide), fun t => absurd t (by decide), fun t => absurd t (by decide), fun _ => rfl, fun _ _ _ t => absurd rfl t⟩
  unfold wL_lawOf_237 wL_lawOf_253
  refine br_t rfl (br_c (fun e => k 0 (d0 e)) (fun n0 => br_c (fun e => k 0 (d1 e)) (fun n1 => br_c (fun e => ?_) (fun n2 => br_c (fun e => ?_) (fun n3 => k (-1) ⟨fun t => absurd t n0, fun t => absurd t n1, fun t => absurd t n2, fun t => absurd t n3, fun _ _ _ _ => rfl⟩)))))
  · rcases hx with ⟨e11, e2, e3⟩ | ⟨e11, e2, e3⟩
    · exact br_t e11 (k x2 (e2.symm ▸ d2 e))
    · exact br_f e11 (k x3 (e3.symm ▸ d2 e))
  · rcases hx with ⟨e11, e2, e3⟩ | ⟨e11, e2, e3⟩
    · exact br_t e11 (k x3 (e3.symm ▸ d3 e))
    · exact br_f e11 (k x2 (e2.symm ▸ d3 e))
/-- no size -/
theorem ap_l163A {x0 x1 x2 x3 x5 x9 : Int32} {w h : Nat} (c0 : ap_cl x0 w) (c1 : ap_cl x1 h) (hw : w ≤ 16) (hh0 : 0 < h) (hh : h ≤ 16) (hs : ¬ ap_sz x2 x3) (H : post 1 ()) :
    wL_lawOf_163 post 10 1424 x0 x1 x2 x3 x5 (nI w) (nI h) 0 x9 0 0 0 0 0 := by
  unfold wL_lawOf_163
  refine ⟨by omega, by omega, 9, 1410, by omega, by omega, ap_init c0 c1 hw hh (fun b3 b5 b6 h3 h5 h6 => ?_)⟩
  refine ap_bestA hs (br_t rfl ?_)
  unfold wL_lawOf_203
  refine br_t rfl (ap_placeA hs (br_t rfl ?_))
  exact ap_l237n hw hh0 hh h3 h6 H
/-- a size that doesn't fit -/
theorem ap_l163B {x0 x1 x5 x9 : Int32} {w h a b : Nat} (c0 : ap_cl x0 w) (c1 : ap_cl x1 h) (hw : w ≤ 16) (hh0 : 0 < h) (hh : h ≤ 16) (ha : a ≤ 16) (hb : b ≤ 16) (hs : ap_sz (nI a) (nI b)) (n1 : ¬ (a ≤ w ∧ b ≤ h)) (n2 : x9 = 0 ∨ ¬ (b ≤ w ∧ a ≤ h)) (H : post 1 ()) :
    wL_lawOf_163 post 10 1424 x0 x1 (nI a) (nI b) x5 (nI w) (nI h) 1 x9 0 0 0 0 0 := by
  unfold wL_lawOf_163
  refine ⟨by omega, by omega, 9, 1410, by omega, by omega, ap_init c0 c1 hw hh (fun b3 b5 b6 h3 h5 h6 => ?_)⟩
  refine ap_bestB hw hh ha hb hs h6 (fun z y => absurd ⟨z, y⟩ n1) (fun _ => br_f (by decide) (br_t rfl ?_))
  unfold wL_lawOf_203
  refine br_t rfl (ap_placeB hw hh ha hb hs h6 n1 n2 (br_f (by decide) (br_t rfl ?_)))
  exact ap_l237n hw hh0 hh h3 h6 H
/-- a size that fits as it is -/
theorem ap_l163C {x0 x1 x5 x9 : Int32} {w h a b : Nat} (c0 : ap_cl x0 w) (c1 : ap_cl x1 h) (hw : w ≤ 16) (hh : h ≤ 16) (ha0 : 0 < a) (ha : a ≤ 16) (hb0 : 0 < b) (hb : b ≤ 16) (hs : ap_sz (nI a) (nI b)) (y1 : a ≤ w ∧ b ≤ h) (H : post 1 ()) :
    wL_lawOf_163 post 10 1424 x0 x1 (nI a) (nI b) x5 (nI w) (nI h) 1 x9 1 0 1 0 0 := by
  have hw0 : 0 < w := by omega
  have hh0 : 0 < h := by omega
  unfold wL_lawOf_163
  refine ⟨by omega, by omega, 9, 1410, by omega, by omega, ap_init c0 c1 hw hh (fun b3 b5 b6 h3 h5 h6 => ?_)⟩
  refine ap_bestB hw hh ha hb hs h6 (fun _ _ => br_f (by decide) (br_f (by decide) ?_)) (fun z => absurd y1 z)
  unfold wL_lawOf_203
  refine br_t rfl (ap_placeC hw hh ha hb hs h6 y1 (ap_put ha hb (Or.inl ⟨rfl, rfl, rfl⟩) h3 (fun g3 g4 e1 e2 e3 e4 e5 e6 e7 k1 k2 k3 k4 k3' g1 g2 => br_f (by decide) (br_f (by decide) ?_))))
  exact ap_l237p hw0 hw hh0 hh y1.2 k1 k2 k3 k4 (by rw [k3]; exact nI_ne0 ha0 (by omega)) k3' (fun j hj => by rw [g1 j hj, h5 j (by omega)]) (fun j hj hj' => by rw [g2 j hj, h5 j hj']) (Or.inl ⟨rfl, rfl, rfl⟩) H
/-- a size that fits turned -/
theorem ap_l163D {x0 x1 x5 x9 : Int32} {w h a b : Nat} (c0 : ap_cl x0 w) (c1 : ap_cl x1 h) (hw : w ≤ 16) (hh : h ≤ 16) (ha0 : 0 < a) (ha : a ≤ 16) (hb0 : 0 < b) (hb : b ≤ 16) (hs : ap_sz (nI a) (nI b)) (n1 : ¬ (a ≤ w ∧ b ≤ h)) (hp : ¬ x9 = 0) (y2 : b ≤ w ∧ a ≤ h) (H : post 1 ()) :
    wL_lawOf_163 post 10 1424 x0 x1 (nI a) (nI b) x5 (nI w) (nI h) 1 x9 0 1 1 0 0 := by
  have hw0 : 0 < w := by omega
  have hh0 : 0 < h := by omega
  unfold wL_lawOf_163
  refine ⟨by omega, by omega, 9, 1410, by omega, by omega, ap_init c0 c1 hw hh (fun b3 b5 b6 h3 h5 h6 => ?_)⟩
  refine ap_bestB hw hh ha hb hs h6 (fun z y => absurd ⟨z, y⟩ n1) (fun _ => br_f (by decide) (br_t rfl ?_))
  unfold wL_lawOf_203
  refine br_t rfl (ap_placeD hw hh ha hb hs h6 n1 hp y2 (ap_put hb ha (Or.inr ⟨by decide, rfl, rfl⟩) h3 (fun g3 g4 e1 e2 e3 e4 e5 e6 e7 k1 k2 k3 k4 k3' g1 g2 => br_f (by decide) (br_f (by decide) ?_))))
  exact ap_l237p hw0 hw hh0 hh y2.2 k1 k2 k3 k4 (by rw [k3]; exact nI_ne0 hb0 (by omega)) k3' (fun j hj => by rw [g1 j hj, h5 j (by omega)]) (fun j hj hj' => by rw [g2 j hj, h5 j hj']) (Or.inr ⟨by decide, rfl, rfl⟩) H
theorem ap_l73A {x0 x1 x2 x3 x4 x5 : Int32} {w h : Nat} (c0 : ap_cl x0 w) (c1 : ap_cl x1 h) (hw : w ≤ 16) (hh0 : 0 < h) (hh : h ≤ 16) (hs : ¬ ap_sz x2 x3) (H : post 1 ()) :
    wL_lawOf_73 post 10 1424 x0 x1 x2 x3 x4 x5 (nI w) (nI h) 0 0 0 := by
  have k : ∀ x9, wL_lawOf_88 post 10 1424 x0 x1 x2 x3 x5 (nI w) (nI h) 0 x9 0 0 := by
    intro x9
    unfold wL_lawOf_88
    refine br_t rfl ?_
    unfold wL_lawOf_111 wL_lawOf_112
    refine br_t rfl ?_
    unfold wL_lawOf_145 wL_lawOf_146
    exact br_t rfl (br_t rfl (ap_l163A c0 c1 hw hh0 hh hs H))
  unfold wL_lawOf_73
  exact br_c (fun _ => k 1) (fun _ => k 0)
theorem ap_l73B {x0 x1 x4 x5 : Int32} {w h a b : Nat} (c0 : ap_cl x0 w) (c1 : ap_cl x1 h) (hw : w ≤ 16) (hh0 : 0 < h) (hh : h ≤ 16) (ha0 : 0 < a) (ha : a ≤ 16) (hb0 : 0 < b) (hb : b ≤ 16) (hs : ap_sz (nI a) (nI b)) (H : post 1 ()) :
    wL_lawOf_73 post 10 1424 x0 x1 (nI a) (nI b) x4 x5 (nI w) (nI h) 1 0 0 := by
  have k111 : ∀ x9, ¬ (a ≤ w ∧ b ≤ h) → wL_lawOf_111 post 10 1424 x0 x1 (nI a) (nI b) x5 (nI w) (nI h) 1 x9 0 0 := by
    intro x9 n1
    have kB : (x9 = 0 ∨ ¬ (b ≤ w ∧ a ≤ h)) → wL_lawOf_145 post 10 1424 x0 x1 (nI a) (nI b) x5 (nI w) (nI h) 1 x9 0 0 0 := by
      intro n2
      unfold wL_lawOf_145 wL_lawOf_146
      exact br_t rfl (br_t rfl (ap_l163B c0 c1 hw hh0 hh ha hb hs n1 n2 H))
    unfold wL_lawOf_111 wL_lawOf_112
    refine br_f (by decide) (br_t rfl (br_c (fun e => kB (Or.inl e)) (fun e => pk_lt w b (fun z => kB (Or.inr (fun t => absurd t.1 (by omega)))) (fun z => pk_lt h a (fun y => kB (Or.inr (fun t => absurd t.2 (by omega)))) (fun y => ?_)))))
    unfold wL_lawOf_146 wL_lawOf_158
    exact br_t rfl (br_f (by decide) (ap_l163D c0 c1 hw hh ha0 ha hb0 hb hs n1 e ⟨z, y⟩ H))
  have k : ∀ x9, wL_lawOf_88 post 10 1424 x0 x1 (nI a) (nI b) x5 (nI w) (nI h) 1 x9 0 0 := by
    intro x9
    unfold wL_lawOf_88
    refine br_f (by decide) (pk_lt w a (fun z => k111 x9 (fun t => absurd t.1 (by omega))) (fun z => pk_lt h b (fun y => k111 x9 (fun t => absurd t.2 (by omega))) (fun y => ?_)))
    unfold wL_lawOf_112
    refine br_f (by decide) (br_f (by decide) ?_)
    unfold wL_lawOf_145 wL_lawOf_146 wL_lawOf_158
    exact br_f (by decide) (ap_l163C c0 c1 hw hh ha0 ha hb0 hb hs ⟨z, y⟩ H)
  unfold wL_lawOf_73
  exact br_c (fun _ => k 1) (fun _ => k 0)
theorem ap_l44 {x0 x1 x2 x3 x4 x5 : Int32} {w h : Nat} (c0 : ap_cl x0 w) (c1 : ap_cl x1 h) (hw : w ≤ 16) (hh0 : 0 < h) (hh : h ≤ 16) (H : post 1 ()) :
    wL_lawOf_44 post 10 1424 x0 x1 x2 x3 x4 x5 (nI w) (nI h) 0 0 := by
  have kA : ¬ ap_sz x2 x3 → wL_lawOf_73 post 10 1424 x0 x1 x2 x3 x4 x5 (nI w) (nI h) 0 0 0 := fun hs => ap_l73A c0 c1 hw hh0 hh hs H
  unfold wL_lawOf_44 wL_lawOf_72
  refine br_c (fun z => kA (fun t => t.1 z)) (fun z1 => br_c (fun z => kA (fun t => t.2.1 z)) (fun z2 => br_c (fun z => kA (fun t => t.2.2.1 z)) (fun z3 => br_c (fun z => kA (fun t => t.2.2.2 z)) (fun z4 => ?_))))
  have hs : ap_sz x2 x3 := ⟨z1, z2, z3, z4⟩
  obtain ⟨a, ha0, ha, ea⟩ := ap_sz1 z1 z2
  obtain ⟨b, hb0, hb, eb⟩ := ap_sz1 z3 z4
  clear z1 z2 z3 z4 kA
  subst ea eb
  exact ap_l73B c0 c1 hw hh0 hh ha0 ha hb0 hb hs H
theorem ap_lawOf {p0 p1 p2 p3 p4 p5 : Int32} (H : post 1 ()) : wpL_lawOf post 10 1424 () p0 p1 p2 p3 p4 p5 := by
  obtain ⟨w, hw4, hw, c0⟩ := ap_clE p0
  obtain ⟨h, hh4, hh, c1⟩ := ap_clE p1
  have k : wL_lawOf_21 post 10 1424 p0 p1 p2 p3 p4 p5 (nI w) 0 0 := by
    unfold wL_lawOf_21
    exact ap_clamp (fun z => wL_lawOf_44 post 10 1424 p0 p1 p2 p3 p4 p5 (nI w) z 0 0) c1 (ap_l44 c0 c1 hw (by omega) hh H)
  unfold wpL_lawOf
  exact ap_clamp (fun z => wL_lawOf_21 post 10 1424 p0 p1 p2 p3 p4 p5 z 0 0) c0 k
end
theorem ap_cell {post : Int32 → Prop} {xs : Nat → Int32} {u : St0} {p1 : Int32} {L : Nat} (k : Nat) (hk : k ≤ 5) (hL : L ≤ 6) (H : ∀ r, post r) (hp : p1 = nI k := by rfl) : wpL_cellAt post L xs u p1 :=
  pk_le L k (fun _ => H 0) (fun z => ⟨pk_in k L z hp, H _⟩) rfl hp
end
section
theorem i_vc (xs : Nat → Int32) (L : Nat) (hL : L ≤ 6) : wpL_law (fun r => r = 1) L xs := by
  unfold wpL_law
  exact ap_cell 0 (by omega) hL (fun r1 => ap_cell 1 (by omega) hL (fun r2 => ap_cell 2 (by omega) hL (fun r3 => ap_cell 3 (by omega) hL (fun r4 => ap_cell 4 (by omega) hL (fun r5 => ap_cell 5 (by omega) hL (fun r6 => ⟨10, 1424, by omega, by omega, ap_lawOf rfl⟩))))))
end
