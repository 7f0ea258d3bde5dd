theorem triv2_ : 1 = 1 := rfl
