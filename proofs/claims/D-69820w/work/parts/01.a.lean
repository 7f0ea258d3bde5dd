theorem zz_a : True := trivial
