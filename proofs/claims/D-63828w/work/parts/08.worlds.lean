abbrev zpk (ws : va_W) (is : List Nat) : va_W := is.filterMap (fun i => ws[i]?)
/-! the worlds -/
def ziushr (x y : Int32) : Int32 := (x.toUInt32 >>> (y.toUInt32 &&& Int32.toUInt32 31)).toInt32
def zlushr (x : Int64) (y : Int32) : Int64 := (x.toUInt64 >>> (y.toInt64.toUInt64 &&& Int64.toUInt64 63)).toInt64
def zlshl (x : Int64) (y : Int32) : Int64 := x <<< (y.toInt64 &&& 63)
def zlshr (x : Int64) (y : Int32) : Int64 := x >>> (y.toInt64 &&& 63)
abbrev wK (G : zG) (o q : Nat) (b : Nat → Int32) (n t : Int32) : va_W := [(o, .inr (0, [.ref q, .int n, .int t])), (q, .inl (G.2.2.1, 50, .inl b))]
abbrev wI (G : zG) (a n : Nat) (f : Nat → Int32) : va_W := [(a, .inl (G.2.1, n, .inl f))]
abbrev wFew (_G : zG) (f : Nat) (fs fc fm fl : Int32) : va_W := [(f, .inr (1, [.int fs, .int fc, .int fm, .int fl]))]
abbrev wSome (_G : zG) (f : Nat) (fs fc fm : Int32) : va_W := [(f, .inr (2, [.int fs, .int fc, .int fm]))]
abbrev wAll (_G : zG) (f : Nat) (fs fc fm : Int32) : va_W := [(f, .inr (3, [.int fs, .int fc, .int fm]))]
abbrev wT (G : zG) (t ac am af ab e0 e1 e2 e3 lo ho : Nat) (c : Nat → Int32) (cl : Nat) (mv : Nat → Int32) (ml : Nat) (en rt : Int32) (fr br : Nat → Int32) (fi st vz : Int64) : va_W :=
  [(t, .inr (4, [.ref ac, .ref am, .int en, .int rt, .ref af, .ref e0, .ref e1, .ref e2, .ref e3, .ref ab, .ref lo, .ref ho, .long fi, .long st, .long vz])),
   (ac, .inl (G.2.1, cl, .inl c)), (am, .inl (G.2.1, ml, .inl mv)), (af, .inl (G.2.1, 261, .inl fr)), (ab, .inl (G.2.1, 4, .inl br)),
   (e0, .inr (1, [.int 0, .int 9, .int 4, .int 5])), (e1, .inr (1, [.int 1, .int 24, .int 16, .int 8])), (e2, .inr (2, [.int 2, .int 116, .int 48])), (e3, .inr (3, [.int 3, .int 260, .int 256]))]
abbrev wM (G : zG) (m af asn al am av ao afr ac an aco ame : Nat) (sort cnt frees cur thr : Int32) (fst snd : Nat → Int64) (letr many : Nat → Int32) (val : Nat → Int64) (ord free code next com met : Nat → Int32) : va_W :=
  [(m, .inr (6, [.int sort, .ref af, .ref asn, .ref al, .ref am, .ref av, .ref ao, .int cnt, .ref afr, .int frees, .int cur, .int thr, .ref ac, .ref an, .ref aco, .ref ame])),
   (af, .inl (G.2.2.2, 1503, .inr (.inl fst))), (asn, .inl (G.2.2.2, 1503, .inr (.inl snd))), (al, .inl (G.2.1, 36072, .inl letr)), (am, .inl (G.2.1, 1503, .inl many)), (av, .inl (G.2.2.2, 1500, .inr (.inl val))),
   (ao, .inl (G.2.1, 1500, .inl ord)), (afr, .inl (G.2.1, 1500, .inl free)), (ac, .inl (G.2.1, 50, .inl code)), (an, .inl (G.2.1, 50, .inl next)), (aco, .inl (G.2.1, 1500, .inl com)), (ame, .inl (G.2.1, 50, .inl met))]
abbrev wB (_G : zG) (s t ao bo uo go : Nat) (sort set : Int32) : va_W := [(s, .inr (5, [.int sort, .ref t, .ref ao, .ref bo, .ref uo, .int set, .ref go]))]
theorem zsw_out {x : Int32} (lo hi : Nat) (h31 : hi < 2147483648) (hlh : lo ≤ hi) (h : (lo : Int) = lo) (hne : ∀ j : Nat, lo ≤ j → j ≤ hi → ¬ x = Int32.ofNat j) : x.toInt < (lo : Int) ∨ (hi : Int) < x.toInt := by
  by_cases h1 : x.toInt < (lo : Int)
  · exact Or.inl h1
  · by_cases h2 : (hi : Int) < x.toInt
    · exact Or.inr h2
    · exfalso
      obtain ⟨j, hj⟩ : ∃ j : Nat, x.toInt = (j : Int) := ⟨x.toInt.toNat, by omega⟩
      refine hne j (by omega) (by omega) ?_
      apply Int32.toInt_inj.mp
      rw [Int32.toInt_ofNat_of_lt (by omega), hj]
